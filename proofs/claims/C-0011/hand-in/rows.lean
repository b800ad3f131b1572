section
/-! pure rows to paste: stores, nI and lN arithmetic, masks, shifts, narrowing, branches by naturals (pk_le, pk_lt, pk_eq), loops (lp1 .. lp16: the measure of the state; rp1 ..: recursion), negatives. Take what you need -/
theorem pk_us {f : Nat → Int32} {k : Nat} {x : Int32} : upd f k x k = x := if_pos rfl
theorem pk_un {f : Nat → Int32} {k j : Nat} {x : Int32} (h : j ≠ k) : upd f k x j = f j := if_neg h
theorem pk_uLs {f : Nat → Int64} {k : Nat} {x : Int64} : vp_updL f k x k = x := if_pos rfl
theorem pk_uLn {f : Nat → Int64} {k j : Nat} {x : Int64} (h : j ≠ k) : vp_updL f k x j = f j := if_neg h
theorem pk_sub {a b : Nat} (h : b ≤ a) : nI a - nI b = nI (a - b) := by
  obtain ⟨c, rfl⟩ : ∃ c, a = c + b := ⟨a - b, by omega⟩
  rw [← nI_add, Int32.add_sub_cancel, Nat.add_sub_cancel]
theorem pk_m1 (n : Nat) : nI (n + 1) + (-1) = nI n := by
  rw [← nI_1, Int32.add_assoc, show (1 : Int32) + (-1) = 0 from rfl, Int32.add_zero]
theorem pk_mul (a b : Nat) : nI a * nI b = nI (a * b) := (Int32.ofNat_mul a b).symm
theorem pk_div {a d : Nat} (ha : a < 2 ^ 31) (h0 : 0 < d) (hd : d < 2 ^ 31) : nI a / nI d = nI (a / d) := by
  apply Int32.toInt_inj.mp
  rw [lg_idiv_nonneg (by rw [nI_toInt ha]; omega) (by rw [nI_toInt hd]; omega), nI_toInt ha, nI_toInt hd, nI_toInt (Nat.lt_of_le_of_lt (Nat.div_le_self a d) ha)]
  first | rfl | exact (Int.natCast_ediv _ _).symm
theorem pk_rem {a d : Nat} (ha : a < 2 ^ 31) (h0 : 0 < d) (hd : d < 2 ^ 31) : nI a - nI a / nI d * nI d = nI (a % d) := by
  rw [pk_div ha h0 hd, pk_mul, pk_sub (Nat.div_mul_le_self a d)]
  exact congrArg nI (by have := Nat.div_add_mod' a d; omega)
theorem pk_sub_toInt {a b : Nat} (ha : a < 2 ^ 30) (hb : b < 2 ^ 30) : (nI a - nI b).toInt = (a : Int) - b := by
  rw [Int32.toInt_sub, nI_toInt (by omega), nI_toInt (by omega)]
  exact Int.bmod_eq_of_le (by omega) (by omega)
theorem pk_sneg {a b : Nat} (hb : b < 2 ^ 30) (h : a < b) : nI a - nI b < 0 := by
  rw [Int32.lt_iff_toInt_lt, pk_sub_toInt (by omega) hb, show (0 : Int32).toInt = 0 from by decide]
  omega
theorem pk_ix (x : Int32) {n : Nat} (hn : n < 2 ^ 31) : x < 0 ∨ nI n ≤ x ∨ ∃ j : Nat, j < n ∧ x = nI j := by
  by_cases h : x < 0
  · exact Or.inl h
  · obtain ⟨j, hj, rfl⟩ := nI_of h
    by_cases h2 : j < n
    · exact Or.inr (Or.inr ⟨j, h2, rfl⟩)
    · exact Or.inr (Or.inl (nI_le (by omega) hj))
theorem pk_le {x y : Int32} {A B : Prop} (a b : Nat) (f : a ≤ b → A) (g : b < a → B) (hx : x = nI a := by rfl) (hy : y = nI b := by rfl) (ha : a < 2 ^ 31 := by omega) (hb : b < 2 ^ 31 := by omega) : (x ≤ y → A) ∧ (¬ x ≤ y → B) := by
  subst hx hy
  rw [nI_leI ha hb]
  exact ⟨f, fun z => g (by omega)⟩
theorem pk_lt {x y : Int32} {A B : Prop} (a b : Nat) (f : a < b → A) (g : b ≤ a → B) (hx : x = nI a := by rfl) (hy : y = nI b := by rfl) (ha : a < 2 ^ 31 := by omega) (hb : b < 2 ^ 31 := by omega) : (x < y → A) ∧ (¬ x < y → B) := by
  subst hx hy
  rw [nI_ltI ha hb]
  exact ⟨f, fun z => g (by omega)⟩
theorem pk_eq {x y : Int32} {A B : Prop} (a b : Nat) (f : a = b → A) (g : a ≠ b → B) (hx : x = nI a := by rfl) (hy : y = nI b := by rfl) (ha : a < 2 ^ 31 := by omega) (hb : b < 2 ^ 31 := by omega) : (x = y → A) ∧ (¬ x = y → B) := by
  subst hx hy
  rw [nI_eq ha hb]
  exact ⟨f, g⟩
theorem pk_in {x : Int32} (n N : Nat) (h : n < N) (hx : x = nI n := by rfl) (hN : N < 2 ^ 31 := by omega) : vp_in x N := by
  subst hx
  exact vp_in_nI h hN
theorem pk_cl {x : Int32} (n : Nat) (hx : x = nI n := by rfl) (h : n < 2 ^ 31 := by omega) : x.toNatClampNeg = n := by
  subst hx
  exact nI_clamp h
theorem pk_tn {n : Nat} (h : n < 2 ^ 32) : (nI n).toBitVec.toNat = n := Nat.mod_eq_of_lt h
theorem pk_and (x : Int32) {m : Int32} (k : Nat) (hm : m.toBitVec.toNat = 2 ^ k - 1) : x &&& m = nI (x.toBitVec.toNat % 2 ^ k) := by
  apply Int32.toBitVec_inj.mp
  apply BitVec.eq_of_toNat_eq
  rw [Int32.toBitVec_and, BitVec.toNat_and, hm, Nat.and_two_pow_sub_one_eq_mod]
  show _ = (BitVec.ofNat 32 _).toNat
  rw [BitVec.toNat_ofNat]
  exact (Nat.mod_eq_of_lt (Nat.lt_of_le_of_lt (Nat.mod_le _ _) x.toBitVec.isLt)).symm
theorem pk_andN {n : Nat} (h : n < 2 ^ 32) {m : Int32} (k : Nat) (hm : m.toBitVec.toNat = 2 ^ k - 1) : nI n &&& m = nI (n % 2 ^ k) := by
  rw [pk_and _ k hm, pk_tn h]
theorem pk_andE (x : Int32) {m : Int32} (k : Nat) (hm : m.toBitVec.toNat = 2 ^ k - 1) : ∃ j : Nat, j < 2 ^ k ∧ x &&& m = nI j := ⟨_, Nat.mod_lt _ (Nat.two_pow_pos k), pk_and x k hm⟩
theorem pk_andIn (x : Int32) {m : Int32} (k : Nat) (hm : m.toBitVec.toNat = 2 ^ k - 1) (hk : k ≤ 30) : vp_in (x &&& m) (2 ^ k) := by
  obtain ⟨j, hj, e⟩ := pk_andE x k hm
  rw [e]
  exact vp_in_nI hj (Nat.lt_of_le_of_lt (Nat.pow_le_pow_right (by decide) hk) (by decide))
theorem pk_shl (a s : Int32) (k : Nat) (hs : (s.toBitVec.smod 32).toNat = k) : (a <<< s).toBitVec.toNat = a.toBitVec.toNat * 2 ^ k % 2 ^ 32 := by
  show (a.toBitVec <<< (s.toBitVec.smod 32).toNat).toNat = _
  rw [hs, BitVec.toNat_shiftLeft, Nat.shiftLeft_eq]
theorem pk_shlN {n : Nat} (s : Int32) (k : Nat) (hs : (s.toBitVec.smod 32).toNat = k) (h : n * 2 ^ k < 2 ^ 32) : nI n <<< s = nI (n * 2 ^ k) := by
  apply Int32.toBitVec_inj.mp
  apply BitVec.eq_of_toNat_eq
  have hn : n < 2 ^ 32 := Nat.lt_of_le_of_lt (Nat.le_mul_of_pos_right n (Nat.two_pow_pos k)) h
  rw [pk_shl _ _ k hs, pk_tn hn, pk_tn h, Nat.mod_eq_of_lt h]
theorem pk_shr (a s : Int32) (k : Nat) (hs : (s.toBitVec.smod 32).toNat = k) : (a >>> s).toInt = a.toInt >>> k := by
  show (a.toBitVec.sshiftRight (s.toBitVec.smod 32).toNat).toInt = _
  rw [hs, BitVec.toInt_sshiftRight]
  rfl
theorem pk_shrN {n : Nat} (h : n < 2 ^ 31) (s : Int32) (k : Nat) (hs : (s.toBitVec.smod 32).toNat = k) : nI n >>> s = nI (n / 2 ^ k) := by
  apply Int32.toInt_inj.mp
  have h2 : n / 2 ^ k ≤ n := Nat.div_le_self _ _
  rw [pk_shr _ _ k hs, nI_toInt h, nI_toInt (by omega), Int.shiftRight_eq_div_pow]
  rfl
theorem pk_ushr (x s : Int32) (k : Nat) (hs : ((s.toUInt32 &&& Int32.toUInt32 31).toBitVec % 32).toNat = k) : (x.toUInt32 >>> (s.toUInt32 &&& Int32.toUInt32 31)).toInt32.toBitVec.toNat = x.toBitVec.toNat / 2 ^ k := by
  have e : (x.toUInt32 >>> (s.toUInt32 &&& Int32.toUInt32 31)).toInt32.toBitVec = x.toBitVec >>> k := by
    rw [← hs]
    exact UInt32.toBitVec_shiftRight _ _
  rw [e, BitVec.toNat_ushiftRight, Nat.shiftRight_eq_div_pow]
theorem pk_ushrN {n : Nat} (hn : n < 2 ^ 32) (s : Int32) (k : Nat) (hs : ((s.toUInt32 &&& Int32.toUInt32 31).toBitVec % 32).toNat = k) : ((nI n).toUInt32 >>> (s.toUInt32 &&& Int32.toUInt32 31)).toInt32 = nI (n / 2 ^ k) := by
  apply Int32.toBitVec_inj.mp
  apply BitVec.eq_of_toNat_eq
  rw [pk_ushr _ s k hs, pk_tn hn, pk_tn (Nat.lt_of_le_of_lt (Nat.div_le_self _ _) hn)]
theorem pk_nb (z : Int32) : narrow .byte (.int z.toInt8.toInt32) = .int z.toInt8.toInt32 := congrArg Value.int (by simp)
theorem pk_ns (z : Int32) : narrow .short (.int z.toInt16.toInt32) = .int z.toInt16.toInt32 := congrArg Value.int (by simp)
theorem pk_fb (r : Int32) : fits .byte (.int r.toInt8.toInt32) = true := by
  have ⟨a, b⟩ := lg_i2b_range r
  have h1 : (-128 : Int32).toInt = -128 := by decide
  have h2 : (127 : Int32).toInt = 127 := by decide
  simp only [fits, Bool.and_eq_true, decide_eq_true_eq, Int32.le_iff_toInt_le, h1, h2]
  omega
theorem pk_fs (r : Int32) : fits .short (.int r.toInt16.toInt32) = true := by
  have ⟨a, b⟩ := lg_i2s_range r
  have h1 : (-32768 : Int32).toInt = -32768 := by decide
  have h2 : (32767 : Int32).toInt = 32767 := by decide
  simp only [fits, Bool.and_eq_true, decide_eq_true_eq, Int32.le_iff_toInt_le, h1, h2]
  omega
theorem pk_charN {q : Nat} (hq : q < 65536) : narrow .char (.int (nI q)) = .int (nI q) ∧ fits .char (.int (nI q)) = true := by
  constructor
  · have e : (nI q).toUInt32.toUInt16.toUInt32.toInt32 = nI q := by
      apply Int32.toBitVec_inj.mp
      apply BitVec.eq_of_toNat_eq
      show (nI q).toUInt32.toUInt16.toUInt32.toNat = q % 2 ^ 32
      rw [UInt16.toNat_toUInt32, UInt32.toNat_toUInt16, show (nI q).toUInt32.toNat = q % 2 ^ 32 from rfl]
      omega
    exact congrArg Value.int e
  · have a : (0 : Int32) ≤ nI q := nI_pos' (by omega)
    have b : nI q ≤ 65535 := nI_le (b := 65535) (by omega) (by decide)
    show (decide ((0 : Int32) ≤ nI q) && decide (nI q ≤ 65535)) = true
    rw [decide_eq_true a, decide_eq_true b]
    rfl
theorem pk_char (x : Int32) : (x.toUInt32 % 65536).toInt32 = nI (x.toBitVec.toNat % 65536) := by
  apply Int32.toBitVec_inj.mp
  apply BitVec.eq_of_toNat_eq
  rw [pk_tn (by omega)]
  show (x.toUInt32 % 65536).toNat = _
  rw [UInt32.toNat_mod]
  rfl
theorem pk_nc (x : Int32) : narrow .char (.int (x.toUInt32 % 65536).toInt32) = .int (x.toUInt32 % 65536).toInt32 := by
  rw [pk_char]
  exact (pk_charN (Nat.mod_lt _ (by decide))).1
theorem pk_fc (x : Int32) : fits .char (.int (x.toUInt32 % 65536).toInt32) = true := by
  rw [pk_char]
  exact (pk_charN (Nat.mod_lt _ (by decide))).2
theorem pk_vb (z : Int32) : vp_nar .byte z.toInt8.toInt32 = z.toInt8.toInt32 := by rw [vp_nar_byte]; simp
theorem pk_vs (z : Int32) : vp_nar .short z.toInt16.toInt32 = z.toInt16.toInt32 := by rw [vp_nar_short]; simp
theorem pk_vc (z : Int32) : vp_nar .char (z.toUInt32 % 65536).toInt32 = (z.toUInt32 % 65536).toInt32 := Value.int.inj (pk_nc z)
theorem pk_lT {n : Nat} (h : n < 2 ^ 63) : (lN n).toInt = (n : Int) := lg_ofNat_toInt h
theorem pk_lLT {a b : Nat} (ha : a < 2 ^ 63) (hb : b < 2 ^ 63) : lN a < lN b ↔ a < b := by
  rw [Int64.lt_iff_toInt_lt, pk_lT ha, pk_lT hb]; omega
theorem pk_lLE {a b : Nat} (ha : a < 2 ^ 63) (hb : b < 2 ^ 63) : lN a ≤ lN b ↔ a ≤ b := by
  rw [Int64.le_iff_toInt_le, pk_lT ha, pk_lT hb]; omega
theorem pk_lEQ {a b : Nat} (ha : a < 2 ^ 63) (hb : b < 2 ^ 63) : lN a = lN b ↔ a = b := by
  rw [← Int64.toInt_inj, pk_lT ha, pk_lT hb]; omega
theorem pk_lOf {x : Int64} (h : ¬ x < 0) : ∃ k : Nat, k < 2 ^ 63 ∧ x = lN k := by
  rw [Int64.lt_iff_toInt_lt] at h
  have h0 : (0 : Int64).toInt = 0 := by decide
  have hx := Int64.toInt_lt x
  refine ⟨x.toInt.toNat, by omega, Int64.toInt_inj.mp ?_⟩
  rw [pk_lT (by omega)]
  omega
theorem pk_lDiv {a b : Nat} (ha : a < 2 ^ 63) (h0 : 0 < b) (hb : b < 2 ^ 63) : lN a / lN b = lN (a / b) := by
  apply Int64.toInt_inj.mp
  rw [lg_ldiv_nonneg (by rw [pk_lT ha]; omega) (by rw [pk_lT hb]; omega), pk_lT ha, pk_lT hb, pk_lT (Nat.lt_of_le_of_lt (Nat.div_le_self a b) ha)]
  rfl
theorem pk_lRem {a b : Nat} (ha : a < 2 ^ 63) (h0 : 0 < b) (hb : b < 2 ^ 63) : lN a - lN a / lN b * lN b = lN (a % b) := by
  rw [pk_lDiv ha h0 hb, lN_mul, lN_sub (Nat.div_mul_le_self a b)]
  exact congrArg lN (by have := Nat.div_add_mod' a b; omega)
theorem pk_loop {σ : Type} (W : Nat → Nat → σ → Prop) (I : Nat → σ → Prop) (e i0 : Nat) (s : σ) (hi : i0 ≤ e) (h0 : I i0 s) (hx : ∀ n s, I e s → W (n + 1) e s)
    (hs : ∀ n i s, i < e → I i s → (∀ s', I (i + 1) s' → W n (i + 1) s') → W (n + 1) i s) : ∃ n, W n i0 s :=
  ⟨e + 1, loop_i W I e hx hs (e + 1) i0 s hi (by omega) h0⟩
theorem pk_loopD {σ : Type} (W : Nat → Nat → σ → Prop) (I : Nat → σ → Prop) (hx : ∀ n s, I 0 s → W (n + 1) 0 s)
    (hs : ∀ n i s, I (i + 1) s → (∀ s', I i s' → W n i s') → W (n + 1) (i + 1) s) : ∀ (e : Nat) (s : σ), I e s → W (e + 1) e s := by
  intro e
  induction e with
  | zero => exact fun s h => hx 0 s h
  | succ e ih => exact fun s h => hs (e + 1) e s h (fun s' h' => ih s' h')
theorem lp1 {A1 : Type} (W : Nat → A1 → Prop) (I : A1 → Prop) (μ : A1 → Nat) (hs : ∀ (n : Nat) (a1 : A1), I a1 → (∀ (b1 : A1), I b1 → μ b1 < μ a1 → W n b1) → W (n + 1) a1) (a1 : A1) (h : I a1) : ∃ n, W n a1 :=
  loop_m (σ := A1) (fun n s => W n s) (fun s => I s) (fun s => μ s) (fun n s hI hk => hs n s hI (fun b1 h9 hm => hk b1 h9 hm)) a1 h
theorem lp2 {A1 A2 : Type} (W : Nat → A1 → A2 → Prop) (I : A1 → A2 → Prop) (μ : A1 → A2 → Nat) (hs : ∀ (n : Nat) (a1 : A1) (a2 : A2), I a1 a2 → (∀ (b1 : A1) (b2 : A2), I b1 b2 → μ b1 b2 < μ a1 a2 → W n b1 b2) → W (n + 1) a1 a2) (a1 : A1) (a2 : A2) (h : I a1 a2) : ∃ n, W n a1 a2 :=
  loop_m (σ := A1 × A2) (fun n s => W n s.1 s.2) (fun s => I s.1 s.2) (fun s => μ s.1 s.2) (fun n s hI hk => hs n s.1 s.2 hI (fun b1 b2 h9 hm => hk (b1, b2) h9 hm)) (a1, a2) h
theorem lp3 {A1 A2 A3 : Type} (W : Nat → A1 → A2 → A3 → Prop) (I : A1 → A2 → A3 → Prop) (μ : A1 → A2 → A3 → Nat) (hs : ∀ (n : Nat) (a1 : A1) (a2 : A2) (a3 : A3), I a1 a2 a3 → (∀ (b1 : A1) (b2 : A2) (b3 : A3), I b1 b2 b3 → μ b1 b2 b3 < μ a1 a2 a3 → W n b1 b2 b3) → W (n + 1) a1 a2 a3) (a1 : A1) (a2 : A2) (a3 : A3) (h : I a1 a2 a3) : ∃ n, W n a1 a2 a3 :=
  loop_m (σ := A1 × A2 × A3) (fun n s => W n s.1 s.2.1 s.2.2) (fun s => I s.1 s.2.1 s.2.2) (fun s => μ s.1 s.2.1 s.2.2) (fun n s hI hk => hs n s.1 s.2.1 s.2.2 hI (fun b1 b2 b3 h9 hm => hk (b1, b2, b3) h9 hm)) (a1, a2, a3) h
theorem lp4 {A1 A2 A3 A4 : Type} (W : Nat → A1 → A2 → A3 → A4 → Prop) (I : A1 → A2 → A3 → A4 → Prop) (μ : A1 → A2 → A3 → A4 → Nat) (hs : ∀ (n : Nat) (a1 : A1) (a2 : A2) (a3 : A3) (a4 : A4), I a1 a2 a3 a4 → (∀ (b1 : A1) (b2 : A2) (b3 : A3) (b4 : A4), I b1 b2 b3 b4 → μ b1 b2 b3 b4 < μ a1 a2 a3 a4 → W n b1 b2 b3 b4) → W (n + 1) a1 a2 a3 a4) (a1 : A1) (a2 : A2) (a3 : A3) (a4 : A4) (h : I a1 a2 a3 a4) : ∃ n, W n a1 a2 a3 a4 :=
  loop_m (σ := A1 × A2 × A3 × A4) (fun n s => W n s.1 s.2.1 s.2.2.1 s.2.2.2) (fun s => I s.1 s.2.1 s.2.2.1 s.2.2.2) (fun s => μ s.1 s.2.1 s.2.2.1 s.2.2.2) (fun n s hI hk => hs n s.1 s.2.1 s.2.2.1 s.2.2.2 hI (fun b1 b2 b3 b4 h9 hm => hk (b1, b2, b3, b4) h9 hm)) (a1, a2, a3, a4) h
theorem lp5 {A1 A2 A3 A4 A5 : Type} (W : Nat → A1 → A2 → A3 → A4 → A5 → Prop) (I : A1 → A2 → A3 → A4 → A5 → Prop) (μ : A1 → A2 → A3 → A4 → A5 → Nat) (hs : ∀ (n : Nat) (a1 : A1) (a2 : A2) (a3 : A3) (a4 : A4) (a5 : A5), I a1 a2 a3 a4 a5 → (∀ (b1 : A1) (b2 : A2) (b3 : A3) (b4 : A4) (b5 : A5), I b1 b2 b3 b4 b5 → μ b1 b2 b3 b4 b5 < μ a1 a2 a3 a4 a5 → W n b1 b2 b3 b4 b5) → W (n + 1) a1 a2 a3 a4 a5) (a1 : A1) (a2 : A2) (a3 : A3) (a4 : A4) (a5 : A5) (h : I a1 a2 a3 a4 a5) : ∃ n, W n a1 a2 a3 a4 a5 :=
  loop_m (σ := A1 × A2 × A3 × A4 × A5) (fun n s => W n s.1 s.2.1 s.2.2.1 s.2.2.2.1 s.2.2.2.2) (fun s => I s.1 s.2.1 s.2.2.1 s.2.2.2.1 s.2.2.2.2) (fun s => μ s.1 s.2.1 s.2.2.1 s.2.2.2.1 s.2.2.2.2) (fun n s hI hk => hs n s.1 s.2.1 s.2.2.1 s.2.2.2.1 s.2.2.2.2 hI (fun b1 b2 b3 b4 b5 h9 hm => hk (b1, b2, b3, b4, b5) h9 hm)) (a1, a2, a3, a4, a5) h
theorem lp6 {A1 A2 A3 A4 A5 A6 : Type} (W : Nat → A1 → A2 → A3 → A4 → A5 → A6 → Prop) (I : A1 → A2 → A3 → A4 → A5 → A6 → Prop) (μ : A1 → A2 → A3 → A4 → A5 → A6 → Nat) (hs : ∀ (n : Nat) (a1 : A1) (a2 : A2) (a3 : A3) (a4 : A4) (a5 : A5) (a6 : A6), I a1 a2 a3 a4 a5 a6 → (∀ (b1 : A1) (b2 : A2) (b3 : A3) (b4 : A4) (b5 : A5) (b6 : A6), I b1 b2 b3 b4 b5 b6 → μ b1 b2 b3 b4 b5 b6 < μ a1 a2 a3 a4 a5 a6 → W n b1 b2 b3 b4 b5 b6) → W (n + 1) a1 a2 a3 a4 a5 a6) (a1 : A1) (a2 : A2) (a3 : A3) (a4 : A4) (a5 : A5) (a6 : A6) (h : I a1 a2 a3 a4 a5 a6) : ∃ n, W n a1 a2 a3 a4 a5 a6 :=
  loop_m (σ := A1 × A2 × A3 × A4 × A5 × A6) (fun n s => W n s.1 s.2.1 s.2.2.1 s.2.2.2.1 s.2.2.2.2.1 s.2.2.2.2.2) (fun s => I s.1 s.2.1 s.2.2.1 s.2.2.2.1 s.2.2.2.2.1 s.2.2.2.2.2) (fun s => μ s.1 s.2.1 s.2.2.1 s.2.2.2.1 s.2.2.2.2.1 s.2.2.2.2.2) (fun n s hI hk => hs n s.1 s.2.1 s.2.2.1 s.2.2.2.1 s.2.2.2.2.1 s.2.2.2.2.2 hI (fun b1 b2 b3 b4 b5 b6 h9 hm => hk (b1, b2, b3, b4, b5, b6) h9 hm)) (a1, a2, a3, a4, a5, a6) h
theorem lp7 {A1 A2 A3 A4 A5 A6 A7 : Type} (W : Nat → A1 → A2 → A3 → A4 → A5 → A6 → A7 → Prop) (I : A1 → A2 → A3 → A4 → A5 → A6 → A7 → Prop) (μ : A1 → A2 → A3 → A4 → A5 → A6 → A7 → Nat) (hs : ∀ (n : Nat) (a1 : A1) (a2 : A2) (a3 : A3) (a4 : A4) (a5 : A5) (a6 : A6) (a7 : A7), I a1 a2 a3 a4 a5 a6 a7 → (∀ (b1 : A1) (b2 : A2) (b3 : A3) (b4 : A4) (b5 : A5) (b6 : A6) (b7 : A7), I b1 b2 b3 b4 b5 b6 b7 → μ b1 b2 b3 b4 b5 b6 b7 < μ a1 a2 a3 a4 a5 a6 a7 → W n b1 b2 b3 b4 b5 b6 b7) → W (n + 1) a1 a2 a3 a4 a5 a6 a7) (a1 : A1) (a2 : A2) (a3 : A3) (a4 : A4) (a5 : A5) (a6 : A6) (a7 : A7) (h : I a1 a2 a3 a4 a5 a6 a7) : ∃ n, W n a1 a2 a3 a4 a5 a6 a7 :=
  loop_m (σ := A1 × A2 × A3 × A4 × A5 × A6 × A7) (fun n s => W n s.1 s.2.1 s.2.2.1 s.2.2.2.1 s.2.2.2.2.1 s.2.2.2.2.2.1 s.2.2.2.2.2.2) (fun s => I s.1 s.2.1 s.2.2.1 s.2.2.2.1 s.2.2.2.2.1 s.2.2.2.2.2.1 s.2.2.2.2.2.2) (fun s => μ s.1 s.2.1 s.2.2.1 s.2.2.2.1 s.2.2.2.2.1 s.2.2.2.2.2.1 s.2.2.2.2.2.2) (fun n s hI hk => hs n s.1 s.2.1 s.2.2.1 s.2.2.2.1 s.2.2.2.2.1 s.2.2.2.2.2.1 s.2.2.2.2.2.2 hI (fun b1 b2 b3 b4 b5 b6 b7 h9 hm => hk (b1, b2, b3, b4, b5, b6, b7) h9 hm)) (a1, a2, a3, a4, a5, a6, a7) h
theorem lp8 {A1 A2 A3 A4 A5 A6 A7 A8 : Type} (W : Nat → A1 → A2 → A3 → A4 → A5 → A6 → A7 → A8 → Prop) (I : A1 → A2 → A3 → A4 → A5 → A6 → A7 → A8 → Prop) (μ : A1 → A2 → A3 → A4 → A5 → A6 → A7 → A8 → Nat) (hs : ∀ (n : Nat) (a1 : A1) (a2 : A2) (a3 : A3) (a4 : A4) (a5 : A5) (a6 : A6) (a7 : A7) (a8 : A8), I a1 a2 a3 a4 a5 a6 a7 a8 → (∀ (b1 : A1) (b2 : A2) (b3 : A3) (b4 : A4) (b5 : A5) (b6 : A6) (b7 : A7) (b8 : A8), I b1 b2 b3 b4 b5 b6 b7 b8 → μ b1 b2 b3 b4 b5 b6 b7 b8 < μ a1 a2 a3 a4 a5 a6 a7 a8 → W n b1 b2 b3 b4 b5 b6 b7 b8) → W (n + 1) a1 a2 a3 a4 a5 a6 a7 a8) (a1 : A1) (a2 : A2) (a3 : A3) (a4 : A4) (a5 : A5) (a6 : A6) (a7 : A7) (a8 : A8) (h : I a1 a2 a3 a4 a5 a6 a7 a8) : ∃ n, W n a1 a2 a3 a4 a5 a6 a7 a8 :=
  loop_m (σ := A1 × A2 × A3 × A4 × A5 × A6 × A7 × A8) (fun n s => W n s.1 s.2.1 s.2.2.1 s.2.2.2.1 s.2.2.2.2.1 s.2.2.2.2.2.1 s.2.2.2.2.2.2.1 s.2.2.2.2.2.2.2) (fun s => I s.1 s.2.1 s.2.2.1 s.2.2.2.1 s.2.2.2.2.1 s.2.2.2.2.2.1 s.2.2.2.2.2.2.1 s.2.2.2.2.2.2.2) (fun s => μ s.1 s.2.1 s.2.2.1 s.2.2.2.1 s.2.2.2.2.1 s.2.2.2.2.2.1 s.2.2.2.2.2.2.1 s.2.2.2.2.2.2.2) (fun n s hI hk => hs n s.1 s.2.1 s.2.2.1 s.2.2.2.1 s.2.2.2.2.1 s.2.2.2.2.2.1 s.2.2.2.2.2.2.1 s.2.2.2.2.2.2.2 hI (fun b1 b2 b3 b4 b5 b6 b7 b8 h9 hm => hk (b1, b2, b3, b4, b5, b6, b7, b8) h9 hm)) (a1, a2, a3, a4, a5, a6, a7, a8) h
theorem lp9 {A1 A2 A3 A4 A5 A6 A7 A8 A9 : Type} (W : Nat → A1 → A2 → A3 → A4 → A5 → A6 → A7 → A8 → A9 → Prop) (I : A1 → A2 → A3 → A4 → A5 → A6 → A7 → A8 → A9 → Prop) (μ : A1 → A2 → A3 → A4 → A5 → A6 → A7 → A8 → A9 → Nat) (hs : ∀ (n : Nat) (a1 : A1) (a2 : A2) (a3 : A3) (a4 : A4) (a5 : A5) (a6 : A6) (a7 : A7) (a8 : A8) (a9 : A9), I a1 a2 a3 a4 a5 a6 a7 a8 a9 → (∀ (b1 : A1) (b2 : A2) (b3 : A3) (b4 : A4) (b5 : A5) (b6 : A6) (b7 : A7) (b8 : A8) (b9 : A9), I b1 b2 b3 b4 b5 b6 b7 b8 b9 → μ b1 b2 b3 b4 b5 b6 b7 b8 b9 < μ a1 a2 a3 a4 a5 a6 a7 a8 a9 → W n b1 b2 b3 b4 b5 b6 b7 b8 b9) → W (n + 1) a1 a2 a3 a4 a5 a6 a7 a8 a9) (a1 : A1) (a2 : A2) (a3 : A3) (a4 : A4) (a5 : A5) (a6 : A6) (a7 : A7) (a8 : A8) (a9 : A9) (h : I a1 a2 a3 a4 a5 a6 a7 a8 a9) : ∃ n, W n a1 a2 a3 a4 a5 a6 a7 a8 a9 :=
  loop_m (σ := A1 × A2 × A3 × A4 × A5 × A6 × A7 × A8 × A9) (fun n s => W n s.1 s.2.1 s.2.2.1 s.2.2.2.1 s.2.2.2.2.1 s.2.2.2.2.2.1 s.2.2.2.2.2.2.1 s.2.2.2.2.2.2.2.1 s.2.2.2.2.2.2.2.2) (fun s => I s.1 s.2.1 s.2.2.1 s.2.2.2.1 s.2.2.2.2.1 s.2.2.2.2.2.1 s.2.2.2.2.2.2.1 s.2.2.2.2.2.2.2.1 s.2.2.2.2.2.2.2.2) (fun s => μ s.1 s.2.1 s.2.2.1 s.2.2.2.1 s.2.2.2.2.1 s.2.2.2.2.2.1 s.2.2.2.2.2.2.1 s.2.2.2.2.2.2.2.1 s.2.2.2.2.2.2.2.2) (fun n s hI hk => hs n s.1 s.2.1 s.2.2.1 s.2.2.2.1 s.2.2.2.2.1 s.2.2.2.2.2.1 s.2.2.2.2.2.2.1 s.2.2.2.2.2.2.2.1 s.2.2.2.2.2.2.2.2 hI (fun b1 b2 b3 b4 b5 b6 b7 b8 b9 h9 hm => hk (b1, b2, b3, b4, b5, b6, b7, b8, b9) h9 hm)) (a1, a2, a3, a4, a5, a6, a7, a8, a9) h
theorem lp10 {A1 A2 A3 A4 A5 A6 A7 A8 A9 A10 : Type} (W : Nat → A1 → A2 → A3 → A4 → A5 → A6 → A7 → A8 → A9 → A10 → Prop) (I : A1 → A2 → A3 → A4 → A5 → A6 → A7 → A8 → A9 → A10 → Prop) (μ : A1 → A2 → A3 → A4 → A5 → A6 → A7 → A8 → A9 → A10 → Nat) (hs : ∀ (n : Nat) (a1 : A1) (a2 : A2) (a3 : A3) (a4 : A4) (a5 : A5) (a6 : A6) (a7 : A7) (a8 : A8) (a9 : A9) (a10 : A10), I a1 a2 a3 a4 a5 a6 a7 a8 a9 a10 → (∀ (b1 : A1) (b2 : A2) (b3 : A3) (b4 : A4) (b5 : A5) (b6 : A6) (b7 : A7) (b8 : A8) (b9 : A9) (b10 : A10), I b1 b2 b3 b4 b5 b6 b7 b8 b9 b10 → μ b1 b2 b3 b4 b5 b6 b7 b8 b9 b10 < μ a1 a2 a3 a4 a5 a6 a7 a8 a9 a10 → W n b1 b2 b3 b4 b5 b6 b7 b8 b9 b10) → W (n + 1) a1 a2 a3 a4 a5 a6 a7 a8 a9 a10) (a1 : A1) (a2 : A2) (a3 : A3) (a4 : A4) (a5 : A5) (a6 : A6) (a7 : A7) (a8 : A8) (a9 : A9) (a10 : A10) (h : I a1 a2 a3 a4 a5 a6 a7 a8 a9 a10) : ∃ n, W n a1 a2 a3 a4 a5 a6 a7 a8 a9 a10 :=
  loop_m (σ := A1 × A2 × A3 × A4 × A5 × A6 × A7 × A8 × A9 × A10) (fun n s => W n s.1 s.2.1 s.2.2.1 s.2.2.2.1 s.2.2.2.2.1 s.2.2.2.2.2.1 s.2.2.2.2.2.2.1 s.2.2.2.2.2.2.2.1 s.2.2.2.2.2.2.2.2.1 s.2.2.2.2.2.2.2.2.2) (fun s => I s.1 s.2.1 s.2.2.1 s.2.2.2.1 s.2.2.2.2.1 s.2.2.2.2.2.1 s.2.2.2.2.2.2.1 s.2.2.2.2.2.2.2.1 s.2.2.2.2.2.2.2.2.1 s.2.2.2.2.2.2.2.2.2) (fun s => μ s.1 s.2.1 s.2.2.1 s.2.2.2.1 s.2.2.2.2.1 s.2.2.2.2.2.1 s.2.2.2.2.2.2.1 s.2.2.2.2.2.2.2.1 s.2.2.2.2.2.2.2.2.1 s.2.2.2.2.2.2.2.2.2) (fun n s hI hk => hs n s.1 s.2.1 s.2.2.1 s.2.2.2.1 s.2.2.2.2.1 s.2.2.2.2.2.1 s.2.2.2.2.2.2.1 s.2.2.2.2.2.2.2.1 s.2.2.2.2.2.2.2.2.1 s.2.2.2.2.2.2.2.2.2 hI (fun b1 b2 b3 b4 b5 b6 b7 b8 b9 b10 h9 hm => hk (b1, b2, b3, b4, b5, b6, b7, b8, b9, b10) h9 hm)) (a1, a2, a3, a4, a5, a6, a7, a8, a9, a10) h
theorem lp11 {A1 A2 A3 A4 A5 A6 A7 A8 A9 A10 A11 : Type} (W : Nat → A1 → A2 → A3 → A4 → A5 → A6 → A7 → A8 → A9 → A10 → A11 → Prop) (I : A1 → A2 → A3 → A4 → A5 → A6 → A7 → A8 → A9 → A10 → A11 → Prop) (μ : A1 → A2 → A3 → A4 → A5 → A6 → A7 → A8 → A9 → A10 → A11 → Nat) (hs : ∀ (n : Nat) (a1 : A1) (a2 : A2) (a3 : A3) (a4 : A4) (a5 : A5) (a6 : A6) (a7 : A7) (a8 : A8) (a9 : A9) (a10 : A10) (a11 : A11), I a1 a2 a3 a4 a5 a6 a7 a8 a9 a10 a11 → (∀ (b1 : A1) (b2 : A2) (b3 : A3) (b4 : A4) (b5 : A5) (b6 : A6) (b7 : A7) (b8 : A8) (b9 : A9) (b10 : A10) (b11 : A11), I b1 b2 b3 b4 b5 b6 b7 b8 b9 b10 b11 → μ b1 b2 b3 b4 b5 b6 b7 b8 b9 b10 b11 < μ a1 a2 a3 a4 a5 a6 a7 a8 a9 a10 a11 → W n b1 b2 b3 b4 b5 b6 b7 b8 b9 b10 b11) → W (n + 1) a1 a2 a3 a4 a5 a6 a7 a8 a9 a10 a11) (a1 : A1) (a2 : A2) (a3 : A3) (a4 : A4) (a5 : A5) (a6 : A6) (a7 : A7) (a8 : A8) (a9 : A9) (a10 : A10) (a11 : A11) (h : I a1 a2 a3 a4 a5 a6 a7 a8 a9 a10 a11) : ∃ n, W n a1 a2 a3 a4 a5 a6 a7 a8 a9 a10 a11 :=
  loop_m (σ := A1 × A2 × A3 × A4 × A5 × A6 × A7 × A8 × A9 × A10 × A11) (fun n s => W n s.1 s.2.1 s.2.2.1 s.2.2.2.1 s.2.2.2.2.1 s.2.2.2.2.2.1 s.2.2.2.2.2.2.1 s.2.2.2.2.2.2.2.1 s.2.2.2.2.2.2.2.2.1 s.2.2.2.2.2.2.2.2.2.1 s.2.2.2.2.2.2.2.2.2.2) (fun s => I s.1 s.2.1 s.2.2.1 s.2.2.2.1 s.2.2.2.2.1 s.2.2.2.2.2.1 s.2.2.2.2.2.2.1 s.2.2.2.2.2.2.2.1 s.2.2.2.2.2.2.2.2.1 s.2.2.2.2.2.2.2.2.2.1 s.2.2.2.2.2.2.2.2.2.2) (fun s => μ s.1 s.2.1 s.2.2.1 s.2.2.2.1 s.2.2.2.2.1 s.2.2.2.2.2.1 s.2.2.2.2.2.2.1 s.2.2.2.2.2.2.2.1 s.2.2.2.2.2.2.2.2.1 s.2.2.2.2.2.2.2.2.2.1 s.2.2.2.2.2.2.2.2.2.2) (fun n s hI hk => hs n s.1 s.2.1 s.2.2.1 s.2.2.2.1 s.2.2.2.2.1 s.2.2.2.2.2.1 s.2.2.2.2.2.2.1 s.2.2.2.2.2.2.2.1 s.2.2.2.2.2.2.2.2.1 s.2.2.2.2.2.2.2.2.2.1 s.2.2.2.2.2.2.2.2.2.2 hI (fun b1 b2 b3 b4 b5 b6 b7 b8 b9 b10 b11 h9 hm => hk (b1, b2, b3, b4, b5, b6, b7, b8, b9, b10, b11) h9 hm)) (a1, a2, a3, a4, a5, a6, a7, a8, a9, a10, a11) h
theorem lp12 {A1 A2 A3 A4 A5 A6 A7 A8 A9 A10 A11 A12 : Type} (W : Nat → A1 → A2 → A3 → A4 → A5 → A6 → A7 → A8 → A9 → A10 → A11 → A12 → Prop) (I : A1 → A2 → A3 → A4 → A5 → A6 → A7 → A8 → A9 → A10 → A11 → A12 → Prop) (μ : A1 → A2 → A3 → A4 → A5 → A6 → A7 → A8 → A9 → A10 → A11 → A12 → Nat) (hs : ∀ (n : Nat) (a1 : A1) (a2 : A2) (a3 : A3) (a4 : A4) (a5 : A5) (a6 : A6) (a7 : A7) (a8 : A8) (a9 : A9) (a10 : A10) (a11 : A11) (a12 : A12), I a1 a2 a3 a4 a5 a6 a7 a8 a9 a10 a11 a12 → (∀ (b1 : A1) (b2 : A2) (b3 : A3) (b4 : A4) (b5 : A5) (b6 : A6) (b7 : A7) (b8 : A8) (b9 : A9) (b10 : A10) (b11 : A11) (b12 : A12), I b1 b2 b3 b4 b5 b6 b7 b8 b9 b10 b11 b12 → μ b1 b2 b3 b4 b5 b6 b7 b8 b9 b10 b11 b12 < μ a1 a2 a3 a4 a5 a6 a7 a8 a9 a10 a11 a12 → W n b1 b2 b3 b4 b5 b6 b7 b8 b9 b10 b11 b12) → W (n + 1) a1 a2 a3 a4 a5 a6 a7 a8 a9 a10 a11 a12) (a1 : A1) (a2 : A2) (a3 : A3) (a4 : A4) (a5 : A5) (a6 : A6) (a7 : A7) (a8 : A8) (a9 : A9) (a10 : A10) (a11 : A11) (a12 : A12) (h : I a1 a2 a3 a4 a5 a6 a7 a8 a9 a10 a11 a12) : ∃ n, W n a1 a2 a3 a4 a5 a6 a7 a8 a9 a10 a11 a12 :=
  loop_m (σ := A1 × A2 × A3 × A4 × A5 × A6 × A7 × A8 × A9 × A10 × A11 × A12) (fun n s => W n s.1 s.2.1 s.2.2.1 s.2.2.2.1 s.2.2.2.2.1 s.2.2.2.2.2.1 s.2.2.2.2.2.2.1 s.2.2.2.2.2.2.2.1 s.2.2.2.2.2.2.2.2.1 s.2.2.2.2.2.2.2.2.2.1 s.2.2.2.2.2.2.2.2.2.2.1 s.2.2.2.2.2.2.2.2.2.2.2) (fun s => I s.1 s.2.1 s.2.2.1 s.2.2.2.1 s.2.2.2.2.1 s.2.2.2.2.2.1 s.2.2.2.2.2.2.1 s.2.2.2.2.2.2.2.1 s.2.2.2.2.2.2.2.2.1 s.2.2.2.2.2.2.2.2.2.1 s.2.2.2.2.2.2.2.2.2.2.1 s.2.2.2.2.2.2.2.2.2.2.2) (fun s => μ s.1 s.2.1 s.2.2.1 s.2.2.2.1 s.2.2.2.2.1 s.2.2.2.2.2.1 s.2.2.2.2.2.2.1 s.2.2.2.2.2.2.2.1 s.2.2.2.2.2.2.2.2.1 s.2.2.2.2.2.2.2.2.2.1 s.2.2.2.2.2.2.2.2.2.2.1 s.2.2.2.2.2.2.2.2.2.2.2) (fun n s hI hk => hs n s.1 s.2.1 s.2.2.1 s.2.2.2.1 s.2.2.2.2.1 s.2.2.2.2.2.1 s.2.2.2.2.2.2.1 s.2.2.2.2.2.2.2.1 s.2.2.2.2.2.2.2.2.1 s.2.2.2.2.2.2.2.2.2.1 s.2.2.2.2.2.2.2.2.2.2.1 s.2.2.2.2.2.2.2.2.2.2.2 hI (fun b1 b2 b3 b4 b5 b6 b7 b8 b9 b10 b11 b12 h9 hm => hk (b1, b2, b3, b4, b5, b6, b7, b8, b9, b10, b11, b12) h9 hm)) (a1, a2, a3, a4, a5, a6, a7, a8, a9, a10, a11, a12) h
theorem lp13 {A1 A2 A3 A4 A5 A6 A7 A8 A9 A10 A11 A12 A13 : Type} (W : Nat → A1 → A2 → A3 → A4 → A5 → A6 → A7 → A8 → A9 → A10 → A11 → A12 → A13 → Prop) (I : A1 → A2 → A3 → A4 → A5 → A6 → A7 → A8 → A9 → A10 → A11 → A12 → A13 → Prop) (μ : A1 → A2 → A3 → A4 → A5 → A6 → A7 → A8 → A9 → A10 → A11 → A12 → A13 → Nat) (hs : ∀ (n : Nat) (a1 : A1) (a2 : A2) (a3 : A3) (a4 : A4) (a5 : A5) (a6 : A6) (a7 : A7) (a8 : A8) (a9 : A9) (a10 : A10) (a11 : A11) (a12 : A12) (a13 : A13), I a1 a2 a3 a4 a5 a6 a7 a8 a9 a10 a11 a12 a13 → (∀ (b1 : A1) (b2 : A2) (b3 : A3) (b4 : A4) (b5 : A5) (b6 : A6) (b7 : A7) (b8 : A8) (b9 : A9) (b10 : A10) (b11 : A11) (b12 : A12) (b13 : A13), I b1 b2 b3 b4 b5 b6 b7 b8 b9 b10 b11 b12 b13 → μ b1 b2 b3 b4 b5 b6 b7 b8 b9 b10 b11 b12 b13 < μ a1 a2 a3 a4 a5 a6 a7 a8 a9 a10 a11 a12 a13 → W n b1 b2 b3 b4 b5 b6 b7 b8 b9 b10 b11 b12 b13) → W (n + 1) a1 a2 a3 a4 a5 a6 a7 a8 a9 a10 a11 a12 a13) (a1 : A1) (a2 : A2) (a3 : A3) (a4 : A4) (a5 : A5) (a6 : A6) (a7 : A7) (a8 : A8) (a9 : A9) (a10 : A10) (a11 : A11) (a12 : A12) (a13 : A13) (h : I a1 a2 a3 a4 a5 a6 a7 a8 a9 a10 a11 a12 a13) : ∃ n, W n a1 a2 a3 a4 a5 a6 a7 a8 a9 a10 a11 a12 a13 :=
  loop_m (σ := A1 × A2 × A3 × A4 × A5 × A6 × A7 × A8 × A9 × A10 × A11 × A12 × A13) (fun n s => W n s.1 s.2.1 s.2.2.1 s.2.2.2.1 s.2.2.2.2.1 s.2.2.2.2.2.1 s.2.2.2.2.2.2.1 s.2.2.2.2.2.2.2.1 s.2.2.2.2.2.2.2.2.1 s.2.2.2.2.2.2.2.2.2.1 s.2.2.2.2.2.2.2.2.2.2.1 s.2.2.2.2.2.2.2.2.2.2.2.1 s.2.2.2.2.2.2.2.2.2.2.2.2) (fun s => I s.1 s.2.1 s.2.2.1 s.2.2.2.1 s.2.2.2.2.1 s.2.2.2.2.2.1 s.2.2.2.2.2.2.1 s.2.2.2.2.2.2.2.1 s.2.2.2.2.2.2.2.2.1 s.2.2.2.2.2.2.2.2.2.1 s.2.2.2.2.2.2.2.2.2.2.1 s.2.2.2.2.2.2.2.2.2.2.2.1 s.2.2.2.2.2.2.2.2.2.2.2.2) (fun s => μ s.1 s.2.1 s.2.2.1 s.2.2.2.1 s.2.2.2.2.1 s.2.2.2.2.2.1 s.2.2.2.2.2.2.1 s.2.2.2.2.2.2.2.1 s.2.2.2.2.2.2.2.2.1 s.2.2.2.2.2.2.2.2.2.1 s.2.2.2.2.2.2.2.2.2.2.1 s.2.2.2.2.2.2.2.2.2.2.2.1 s.2.2.2.2.2.2.2.2.2.2.2.2) (fun n s hI hk => hs n s.1 s.2.1 s.2.2.1 s.2.2.2.1 s.2.2.2.2.1 s.2.2.2.2.2.1 s.2.2.2.2.2.2.1 s.2.2.2.2.2.2.2.1 s.2.2.2.2.2.2.2.2.1 s.2.2.2.2.2.2.2.2.2.1 s.2.2.2.2.2.2.2.2.2.2.1 s.2.2.2.2.2.2.2.2.2.2.2.1 s.2.2.2.2.2.2.2.2.2.2.2.2 hI (fun b1 b2 b3 b4 b5 b6 b7 b8 b9 b10 b11 b12 b13 h9 hm => hk (b1, b2, b3, b4, b5, b6, b7, b8, b9, b10, b11, b12, b13) h9 hm)) (a1, a2, a3, a4, a5, a6, a7, a8, a9, a10, a11, a12, a13) h
theorem lp14 {A1 A2 A3 A4 A5 A6 A7 A8 A9 A10 A11 A12 A13 A14 : Type} (W : Nat → A1 → A2 → A3 → A4 → A5 → A6 → A7 → A8 → A9 → A10 → A11 → A12 → A13 → A14 → Prop) (I : A1 → A2 → A3 → A4 → A5 → A6 → A7 → A8 → A9 → A10 → A11 → A12 → A13 → A14 → Prop) (μ : A1 → A2 → A3 → A4 → A5 → A6 → A7 → A8 → A9 → A10 → A11 → A12 → A13 → A14 → Nat) (hs : ∀ (n : Nat) (a1 : A1) (a2 : A2) (a3 : A3) (a4 : A4) (a5 : A5) (a6 : A6) (a7 : A7) (a8 : A8) (a9 : A9) (a10 : A10) (a11 : A11) (a12 : A12) (a13 : A13) (a14 : A14), I a1 a2 a3 a4 a5 a6 a7 a8 a9 a10 a11 a12 a13 a14 → (∀ (b1 : A1) (b2 : A2) (b3 : A3) (b4 : A4) (b5 : A5) (b6 : A6) (b7 : A7) (b8 : A8) (b9 : A9) (b10 : A10) (b11 : A11) (b12 : A12) (b13 : A13) (b14 : A14), I b1 b2 b3 b4 b5 b6 b7 b8 b9 b10 b11 b12 b13 b14 → μ b1 b2 b3 b4 b5 b6 b7 b8 b9 b10 b11 b12 b13 b14 < μ a1 a2 a3 a4 a5 a6 a7 a8 a9 a10 a11 a12 a13 a14 → W n b1 b2 b3 b4 b5 b6 b7 b8 b9 b10 b11 b12 b13 b14) → W (n + 1) a1 a2 a3 a4 a5 a6 a7 a8 a9 a10 a11 a12 a13 a14) (a1 : A1) (a2 : A2) (a3 : A3) (a4 : A4) (a5 : A5) (a6 : A6) (a7 : A7) (a8 : A8) (a9 : A9) (a10 : A10) (a11 : A11) (a12 : A12) (a13 : A13) (a14 : A14) (h : I a1 a2 a3 a4 a5 a6 a7 a8 a9 a10 a11 a12 a13 a14) : ∃ n, W n a1 a2 a3 a4 a5 a6 a7 a8 a9 a10 a11 a12 a13 a14 :=
  loop_m (σ := A1 × A2 × A3 × A4 × A5 × A6 × A7 × A8 × A9 × A10 × A11 × A12 × A13 × A14) (fun n s => W n s.1 s.2.1 s.2.2.1 s.2.2.2.1 s.2.2.2.2.1 s.2.2.2.2.2.1 s.2.2.2.2.2.2.1 s.2.2.2.2.2.2.2.1 s.2.2.2.2.2.2.2.2.1 s.2.2.2.2.2.2.2.2.2.1 s.2.2.2.2.2.2.2.2.2.2.1 s.2.2.2.2.2.2.2.2.2.2.2.1 s.2.2.2.2.2.2.2.2.2.2.2.2.1 s.2.2.2.2.2.2.2.2.2.2.2.2.2) (fun s => I s.1 s.2.1 s.2.2.1 s.2.2.2.1 s.2.2.2.2.1 s.2.2.2.2.2.1 s.2.2.2.2.2.2.1 s.2.2.2.2.2.2.2.1 s.2.2.2.2.2.2.2.2.1 s.2.2.2.2.2.2.2.2.2.1 s.2.2.2.2.2.2.2.2.2.2.1 s.2.2.2.2.2.2.2.2.2.2.2.1 s.2.2.2.2.2.2.2.2.2.2.2.2.1 s.2.2.2.2.2.2.2.2.2.2.2.2.2) (fun s => μ s.1 s.2.1 s.2.2.1 s.2.2.2.1 s.2.2.2.2.1 s.2.2.2.2.2.1 s.2.2.2.2.2.2.1 s.2.2.2.2.2.2.2.1 s.2.2.2.2.2.2.2.2.1 s.2.2.2.2.2.2.2.2.2.1 s.2.2.2.2.2.2.2.2.2.2.1 s.2.2.2.2.2.2.2.2.2.2.2.1 s.2.2.2.2.2.2.2.2.2.2.2.2.1 s.2.2.2.2.2.2.2.2.2.2.2.2.2) (fun n s hI hk => hs n s.1 s.2.1 s.2.2.1 s.2.2.2.1 s.2.2.2.2.1 s.2.2.2.2.2.1 s.2.2.2.2.2.2.1 s.2.2.2.2.2.2.2.1 s.2.2.2.2.2.2.2.2.1 s.2.2.2.2.2.2.2.2.2.1 s.2.2.2.2.2.2.2.2.2.2.1 s.2.2.2.2.2.2.2.2.2.2.2.1 s.2.2.2.2.2.2.2.2.2.2.2.2.1 s.2.2.2.2.2.2.2.2.2.2.2.2.2 hI (fun b1 b2 b3 b4 b5 b6 b7 b8 b9 b10 b11 b12 b13 b14 h9 hm => hk (b1, b2, b3, b4, b5, b6, b7, b8, b9, b10, b11, b12, b13, b14) h9 hm)) (a1, a2, a3, a4, a5, a6, a7, a8, a9, a10, a11, a12, a13, a14) h
theorem lp15 {A1 A2 A3 A4 A5 A6 A7 A8 A9 A10 A11 A12 A13 A14 A15 : Type} (W : Nat → A1 → A2 → A3 → A4 → A5 → A6 → A7 → A8 → A9 → A10 → A11 → A12 → A13 → A14 → A15 → Prop) (I : A1 → A2 → A3 → A4 → A5 → A6 → A7 → A8 → A9 → A10 → A11 → A12 → A13 → A14 → A15 → Prop) (μ : A1 → A2 → A3 → A4 → A5 → A6 → A7 → A8 → A9 → A10 → A11 → A12 → A13 → A14 → A15 → Nat) (hs : ∀ (n : Nat) (a1 : A1) (a2 : A2) (a3 : A3) (a4 : A4) (a5 : A5) (a6 : A6) (a7 : A7) (a8 : A8) (a9 : A9) (a10 : A10) (a11 : A11) (a12 : A12) (a13 : A13) (a14 : A14) (a15 : A15), I a1 a2 a3 a4 a5 a6 a7 a8 a9 a10 a11 a12 a13 a14 a15 → (∀ (b1 : A1) (b2 : A2) (b3 : A3) (b4 : A4) (b5 : A5) (b6 : A6) (b7 : A7) (b8 : A8) (b9 : A9) (b10 : A10) (b11 : A11) (b12 : A12) (b13 : A13) (b14 : A14) (b15 : A15), I b1 b2 b3 b4 b5 b6 b7 b8 b9 b10 b11 b12 b13 b14 b15 → μ b1 b2 b3 b4 b5 b6 b7 b8 b9 b10 b11 b12 b13 b14 b15 < μ a1 a2 a3 a4 a5 a6 a7 a8 a9 a10 a11 a12 a13 a14 a15 → W n b1 b2 b3 b4 b5 b6 b7 b8 b9 b10 b11 b12 b13 b14 b15) → W (n + 1) a1 a2 a3 a4 a5 a6 a7 a8 a9 a10 a11 a12 a13 a14 a15) (a1 : A1) (a2 : A2) (a3 : A3) (a4 : A4) (a5 : A5) (a6 : A6) (a7 : A7) (a8 : A8) (a9 : A9) (a10 : A10) (a11 : A11) (a12 : A12) (a13 : A13) (a14 : A14) (a15 : A15) (h : I a1 a2 a3 a4 a5 a6 a7 a8 a9 a10 a11 a12 a13 a14 a15) : ∃ n, W n a1 a2 a3 a4 a5 a6 a7 a8 a9 a10 a11 a12 a13 a14 a15 :=
  loop_m (σ := A1 × A2 × A3 × A4 × A5 × A6 × A7 × A8 × A9 × A10 × A11 × A12 × A13 × A14 × A15) (fun n s => W n s.1 s.2.1 s.2.2.1 s.2.2.2.1 s.2.2.2.2.1 s.2.2.2.2.2.1 s.2.2.2.2.2.2.1 s.2.2.2.2.2.2.2.1 s.2.2.2.2.2.2.2.2.1 s.2.2.2.2.2.2.2.2.2.1 s.2.2.2.2.2.2.2.2.2.2.1 s.2.2.2.2.2.2.2.2.2.2.2.1 s.2.2.2.2.2.2.2.2.2.2.2.2.1 s.2.2.2.2.2.2.2.2.2.2.2.2.2.1 s.2.2.2.2.2.2.2.2.2.2.2.2.2.2) (fun s => I s.1 s.2.1 s.2.2.1 s.2.2.2.1 s.2.2.2.2.1 s.2.2.2.2.2.1 s.2.2.2.2.2.2.1 s.2.2.2.2.2.2.2.1 s.2.2.2.2.2.2.2.2.1 s.2.2.2.2.2.2.2.2.2.1 s.2.2.2.2.2.2.2.2.2.2.1 s.2.2.2.2.2.2.2.2.2.2.2.1 s.2.2.2.2.2.2.2.2.2.2.2.2.1 s.2.2.2.2.2.2.2.2.2.2.2.2.2.1 s.2.2.2.2.2.2.2.2.2.2.2.2.2.2) (fun s => μ s.1 s.2.1 s.2.2.1 s.2.2.2.1 s.2.2.2.2.1 s.2.2.2.2.2.1 s.2.2.2.2.2.2.1 s.2.2.2.2.2.2.2.1 s.2.2.2.2.2.2.2.2.1 s.2.2.2.2.2.2.2.2.2.1 s.2.2.2.2.2.2.2.2.2.2.1 s.2.2.2.2.2.2.2.2.2.2.2.1 s.2.2.2.2.2.2.2.2.2.2.2.2.1 s.2.2.2.2.2.2.2.2.2.2.2.2.2.1 s.2.2.2.2.2.2.2.2.2.2.2.2.2.2) (fun n s hI hk => hs n s.1 s.2.1 s.2.2.1 s.2.2.2.1 s.2.2.2.2.1 s.2.2.2.2.2.1 s.2.2.2.2.2.2.1 s.2.2.2.2.2.2.2.1 s.2.2.2.2.2.2.2.2.1 s.2.2.2.2.2.2.2.2.2.1 s.2.2.2.2.2.2.2.2.2.2.1 s.2.2.2.2.2.2.2.2.2.2.2.1 s.2.2.2.2.2.2.2.2.2.2.2.2.1 s.2.2.2.2.2.2.2.2.2.2.2.2.2.1 s.2.2.2.2.2.2.2.2.2.2.2.2.2.2 hI (fun b1 b2 b3 b4 b5 b6 b7 b8 b9 b10 b11 b12 b13 b14 b15 h9 hm => hk (b1, b2, b3, b4, b5, b6, b7, b8, b9, b10, b11, b12, b13, b14, b15) h9 hm)) (a1, a2, a3, a4, a5, a6, a7, a8, a9, a10, a11, a12, a13, a14, a15) h
theorem lp16 {A1 A2 A3 A4 A5 A6 A7 A8 A9 A10 A11 A12 A13 A14 A15 A16 : Type} (W : Nat → A1 → A2 → A3 → A4 → A5 → A6 → A7 → A8 → A9 → A10 → A11 → A12 → A13 → A14 → A15 → A16 → Prop) (I : A1 → A2 → A3 → A4 → A5 → A6 → A7 → A8 → A9 → A10 → A11 → A12 → A13 → A14 → A15 → A16 → Prop) (μ : A1 → A2 → A3 → A4 → A5 → A6 → A7 → A8 → A9 → A10 → A11 → A12 → A13 → A14 → A15 → A16 → Nat) (hs : ∀ (n : Nat) (a1 : A1) (a2 : A2) (a3 : A3) (a4 : A4) (a5 : A5) (a6 : A6) (a7 : A7) (a8 : A8) (a9 : A9) (a10 : A10) (a11 : A11) (a12 : A12) (a13 : A13) (a14 : A14) (a15 : A15) (a16 : A16), I a1 a2 a3 a4 a5 a6 a7 a8 a9 a10 a11 a12 a13 a14 a15 a16 → (∀ (b1 : A1) (b2 : A2) (b3 : A3) (b4 : A4) (b5 : A5) (b6 : A6) (b7 : A7) (b8 : A8) (b9 : A9) (b10 : A10) (b11 : A11) (b12 : A12) (b13 : A13) (b14 : A14) (b15 : A15) (b16 : A16), I b1 b2 b3 b4 b5 b6 b7 b8 b9 b10 b11 b12 b13 b14 b15 b16 → μ b1 b2 b3 b4 b5 b6 b7 b8 b9 b10 b11 b12 b13 b14 b15 b16 < μ a1 a2 a3 a4 a5 a6 a7 a8 a9 a10 a11 a12 a13 a14 a15 a16 → W n b1 b2 b3 b4 b5 b6 b7 b8 b9 b10 b11 b12 b13 b14 b15 b16) → W (n + 1) a1 a2 a3 a4 a5 a6 a7 a8 a9 a10 a11 a12 a13 a14 a15 a16) (a1 : A1) (a2 : A2) (a3 : A3) (a4 : A4) (a5 : A5) (a6 : A6) (a7 : A7) (a8 : A8) (a9 : A9) (a10 : A10) (a11 : A11) (a12 : A12) (a13 : A13) (a14 : A14) (a15 : A15) (a16 : A16) (h : I a1 a2 a3 a4 a5 a6 a7 a8 a9 a10 a11 a12 a13 a14 a15 a16) : ∃ n, W n a1 a2 a3 a4 a5 a6 a7 a8 a9 a10 a11 a12 a13 a14 a15 a16 :=
  loop_m (σ := A1 × A2 × A3 × A4 × A5 × A6 × A7 × A8 × A9 × A10 × A11 × A12 × A13 × A14 × A15 × A16) (fun n s => W n s.1 s.2.1 s.2.2.1 s.2.2.2.1 s.2.2.2.2.1 s.2.2.2.2.2.1 s.2.2.2.2.2.2.1 s.2.2.2.2.2.2.2.1 s.2.2.2.2.2.2.2.2.1 s.2.2.2.2.2.2.2.2.2.1 s.2.2.2.2.2.2.2.2.2.2.1 s.2.2.2.2.2.2.2.2.2.2.2.1 s.2.2.2.2.2.2.2.2.2.2.2.2.1 s.2.2.2.2.2.2.2.2.2.2.2.2.2.1 s.2.2.2.2.2.2.2.2.2.2.2.2.2.2.1 s.2.2.2.2.2.2.2.2.2.2.2.2.2.2.2) (fun s => I s.1 s.2.1 s.2.2.1 s.2.2.2.1 s.2.2.2.2.1 s.2.2.2.2.2.1 s.2.2.2.2.2.2.1 s.2.2.2.2.2.2.2.1 s.2.2.2.2.2.2.2.2.1 s.2.2.2.2.2.2.2.2.2.1 s.2.2.2.2.2.2.2.2.2.2.1 s.2.2.2.2.2.2.2.2.2.2.2.1 s.2.2.2.2.2.2.2.2.2.2.2.2.1 s.2.2.2.2.2.2.2.2.2.2.2.2.2.1 s.2.2.2.2.2.2.2.2.2.2.2.2.2.2.1 s.2.2.2.2.2.2.2.2.2.2.2.2.2.2.2) (fun s => μ s.1 s.2.1 s.2.2.1 s.2.2.2.1 s.2.2.2.2.1 s.2.2.2.2.2.1 s.2.2.2.2.2.2.1 s.2.2.2.2.2.2.2.1 s.2.2.2.2.2.2.2.2.1 s.2.2.2.2.2.2.2.2.2.1 s.2.2.2.2.2.2.2.2.2.2.1 s.2.2.2.2.2.2.2.2.2.2.2.1 s.2.2.2.2.2.2.2.2.2.2.2.2.1 s.2.2.2.2.2.2.2.2.2.2.2.2.2.1 s.2.2.2.2.2.2.2.2.2.2.2.2.2.2.1 s.2.2.2.2.2.2.2.2.2.2.2.2.2.2.2) (fun n s hI hk => hs n s.1 s.2.1 s.2.2.1 s.2.2.2.1 s.2.2.2.2.1 s.2.2.2.2.2.1 s.2.2.2.2.2.2.1 s.2.2.2.2.2.2.2.1 s.2.2.2.2.2.2.2.2.1 s.2.2.2.2.2.2.2.2.2.1 s.2.2.2.2.2.2.2.2.2.2.1 s.2.2.2.2.2.2.2.2.2.2.2.1 s.2.2.2.2.2.2.2.2.2.2.2.2.1 s.2.2.2.2.2.2.2.2.2.2.2.2.2.1 s.2.2.2.2.2.2.2.2.2.2.2.2.2.2.1 s.2.2.2.2.2.2.2.2.2.2.2.2.2.2.2 hI (fun b1 b2 b3 b4 b5 b6 b7 b8 b9 b10 b11 b12 b13 b14 b15 b16 h9 hm => hk (b1, b2, b3, b4, b5, b6, b7, b8, b9, b10, b11, b12, b13, b14, b15, b16) h9 hm)) (a1, a2, a3, a4, a5, a6, a7, a8, a9, a10, a11, a12, a13, a14, a15, a16) h
theorem pk_least (P : Nat → Prop) (h : ∃ k, P k) : ∃ k, P k ∧ ∀ j, j < k → ¬ P j := by
  obtain ⟨k, hk⟩ := h
  induction k using Nat.strongRecOn with
  | ind k ih =>
    by_cases e : ∃ j, j < k ∧ P j
    · obtain ⟨j, hj, pj⟩ := e
      exact ih j hj pj
    · exact ⟨k, hk, fun j hj pj => e ⟨j, hj, pj⟩⟩
theorem rp1 {ρ A1 : Type} (W : Nat → (ρ → Prop) → A1 → Prop) (ok : A1 → Prop) (μ : A1 → Nat) (val : A1 → ρ)
    (hs : ∀ (d : Nat) (post : ρ → Prop) (a1 : A1), ok a1 → post (val a1) → (∀ (post' : ρ → Prop) (b1 : A1), ok b1 → μ b1 < μ a1 → post' (val b1) → W d post' b1) → W (d + 1) post a1) :
    ∀ (d : Nat) (post : ρ → Prop) (a1 : A1), ok a1 → μ a1 < d → post (val a1) → W d post a1 := by
  intro d
  induction d with
  | zero => intro post a1 _ h; omega
  | succ d ih =>
    intro post a1 ho hm hp
    exact hs d post a1 ho hp (fun post' b1 ho' hm' hp' => ih post' b1 ho' (by omega) hp')
theorem rp2 {ρ A1 A2 : Type} (W : Nat → (ρ → Prop) → A1 → A2 → Prop) (ok : A1 → A2 → Prop) (μ : A1 → A2 → Nat) (val : A1 → A2 → ρ)
    (hs : ∀ (d : Nat) (post : ρ → Prop) (a1 : A1) (a2 : A2), ok a1 a2 → post (val a1 a2) → (∀ (post' : ρ → Prop) (b1 : A1) (b2 : A2), ok b1 b2 → μ b1 b2 < μ a1 a2 → post' (val b1 b2) → W d post' b1 b2) → W (d + 1) post a1 a2) :
    ∀ (d : Nat) (post : ρ → Prop) (a1 : A1) (a2 : A2), ok a1 a2 → μ a1 a2 < d → post (val a1 a2) → W d post a1 a2 := by
  intro d
  induction d with
  | zero => intro post a1 a2 _ h; omega
  | succ d ih =>
    intro post a1 a2 ho hm hp
    exact hs d post a1 a2 ho hp (fun post' b1 b2 ho' hm' hp' => ih post' b1 b2 ho' (by omega) hp')
theorem rp3 {ρ A1 A2 A3 : Type} (W : Nat → (ρ → Prop) → A1 → A2 → A3 → Prop) (ok : A1 → A2 → A3 → Prop) (μ : A1 → A2 → A3 → Nat) (val : A1 → A2 → A3 → ρ)
    (hs : ∀ (d : Nat) (post : ρ → Prop) (a1 : A1) (a2 : A2) (a3 : A3), ok a1 a2 a3 → post (val a1 a2 a3) → (∀ (post' : ρ → Prop) (b1 : A1) (b2 : A2) (b3 : A3), ok b1 b2 b3 → μ b1 b2 b3 < μ a1 a2 a3 → post' (val b1 b2 b3) → W d post' b1 b2 b3) → W (d + 1) post a1 a2 a3) :
    ∀ (d : Nat) (post : ρ → Prop) (a1 : A1) (a2 : A2) (a3 : A3), ok a1 a2 a3 → μ a1 a2 a3 < d → post (val a1 a2 a3) → W d post a1 a2 a3 := by
  intro d
  induction d with
  | zero => intro post a1 a2 a3 _ h; omega
  | succ d ih =>
    intro post a1 a2 a3 ho hm hp
    exact hs d post a1 a2 a3 ho hp (fun post' b1 b2 b3 ho' hm' hp' => ih post' b1 b2 b3 ho' (by omega) hp')
theorem rp4 {ρ A1 A2 A3 A4 : Type} (W : Nat → (ρ → Prop) → A1 → A2 → A3 → A4 → Prop) (ok : A1 → A2 → A3 → A4 → Prop) (μ : A1 → A2 → A3 → A4 → Nat) (val : A1 → A2 → A3 → A4 → ρ)
    (hs : ∀ (d : Nat) (post : ρ → Prop) (a1 : A1) (a2 : A2) (a3 : A3) (a4 : A4), ok a1 a2 a3 a4 → post (val a1 a2 a3 a4) → (∀ (post' : ρ → Prop) (b1 : A1) (b2 : A2) (b3 : A3) (b4 : A4), ok b1 b2 b3 b4 → μ b1 b2 b3 b4 < μ a1 a2 a3 a4 → post' (val b1 b2 b3 b4) → W d post' b1 b2 b3 b4) → W (d + 1) post a1 a2 a3 a4) :
    ∀ (d : Nat) (post : ρ → Prop) (a1 : A1) (a2 : A2) (a3 : A3) (a4 : A4), ok a1 a2 a3 a4 → μ a1 a2 a3 a4 < d → post (val a1 a2 a3 a4) → W d post a1 a2 a3 a4 := by
  intro d
  induction d with
  | zero => intro post a1 a2 a3 a4 _ h; omega
  | succ d ih =>
    intro post a1 a2 a3 a4 ho hm hp
    exact hs d post a1 a2 a3 a4 ho hp (fun post' b1 b2 b3 b4 ho' hm' hp' => ih post' b1 b2 b3 b4 ho' (by omega) hp')
theorem rp5 {ρ A1 A2 A3 A4 A5 : Type} (W : Nat → (ρ → Prop) → A1 → A2 → A3 → A4 → A5 → Prop) (ok : A1 → A2 → A3 → A4 → A5 → Prop) (μ : A1 → A2 → A3 → A4 → A5 → Nat) (val : A1 → A2 → A3 → A4 → A5 → ρ)
    (hs : ∀ (d : Nat) (post : ρ → Prop) (a1 : A1) (a2 : A2) (a3 : A3) (a4 : A4) (a5 : A5), ok a1 a2 a3 a4 a5 → post (val a1 a2 a3 a4 a5) → (∀ (post' : ρ → Prop) (b1 : A1) (b2 : A2) (b3 : A3) (b4 : A4) (b5 : A5), ok b1 b2 b3 b4 b5 → μ b1 b2 b3 b4 b5 < μ a1 a2 a3 a4 a5 → post' (val b1 b2 b3 b4 b5) → W d post' b1 b2 b3 b4 b5) → W (d + 1) post a1 a2 a3 a4 a5) :
    ∀ (d : Nat) (post : ρ → Prop) (a1 : A1) (a2 : A2) (a3 : A3) (a4 : A4) (a5 : A5), ok a1 a2 a3 a4 a5 → μ a1 a2 a3 a4 a5 < d → post (val a1 a2 a3 a4 a5) → W d post a1 a2 a3 a4 a5 := by
  intro d
  induction d with
  | zero => intro post a1 a2 a3 a4 a5 _ h; omega
  | succ d ih =>
    intro post a1 a2 a3 a4 a5 ho hm hp
    exact hs d post a1 a2 a3 a4 a5 ho hp (fun post' b1 b2 b3 b4 b5 ho' hm' hp' => ih post' b1 b2 b3 b4 b5 ho' (by omega) hp')
theorem rp6 {ρ A1 A2 A3 A4 A5 A6 : Type} (W : Nat → (ρ → Prop) → A1 → A2 → A3 → A4 → A5 → A6 → Prop) (ok : A1 → A2 → A3 → A4 → A5 → A6 → Prop) (μ : A1 → A2 → A3 → A4 → A5 → A6 → Nat) (val : A1 → A2 → A3 → A4 → A5 → A6 → ρ)
    (hs : ∀ (d : Nat) (post : ρ → Prop) (a1 : A1) (a2 : A2) (a3 : A3) (a4 : A4) (a5 : A5) (a6 : A6), ok a1 a2 a3 a4 a5 a6 → post (val a1 a2 a3 a4 a5 a6) → (∀ (post' : ρ → Prop) (b1 : A1) (b2 : A2) (b3 : A3) (b4 : A4) (b5 : A5) (b6 : A6), ok b1 b2 b3 b4 b5 b6 → μ b1 b2 b3 b4 b5 b6 < μ a1 a2 a3 a4 a5 a6 → post' (val b1 b2 b3 b4 b5 b6) → W d post' b1 b2 b3 b4 b5 b6) → W (d + 1) post a1 a2 a3 a4 a5 a6) :
    ∀ (d : Nat) (post : ρ → Prop) (a1 : A1) (a2 : A2) (a3 : A3) (a4 : A4) (a5 : A5) (a6 : A6), ok a1 a2 a3 a4 a5 a6 → μ a1 a2 a3 a4 a5 a6 < d → post (val a1 a2 a3 a4 a5 a6) → W d post a1 a2 a3 a4 a5 a6 := by
  intro d
  induction d with
  | zero => intro post a1 a2 a3 a4 a5 a6 _ h; omega
  | succ d ih =>
    intro post a1 a2 a3 a4 a5 a6 ho hm hp
    exact hs d post a1 a2 a3 a4 a5 a6 ho hp (fun post' b1 b2 b3 b4 b5 b6 ho' hm' hp' => ih post' b1 b2 b3 b4 b5 b6 ho' (by omega) hp')
theorem rec_p {σ ρ : Type} (W : Nat → (ρ → Prop) → σ → Prop) (ok : σ → Prop) (μ : σ → Nat) (val : σ → ρ)
    (hs : ∀ d s post, ok s → post (val s) → (∀ s' post', ok s' → μ s' < μ s → post' (val s') → W d post' s') → W (d + 1) post s) :
    ∀ d s post, ok s → μ s < d → post (val s) → W d post s := by
  intro d
  induction d with
  | zero => intro s post _ h; omega
  | succ d ih =>
    intro s post ho hm hp
    exact hs d s post ho hp (fun s' post' ho' hm' hp' => ih s' post' ho' (by omega) hp')
theorem rec_q {σ ρ : Type} (W : Nat → (ρ → Prop) → σ → Prop) (ok : σ → Prop) (μ : σ → Nat) (Q : σ → ρ → Prop)
    (hs : ∀ d s post, ok s → (∀ r, Q s r → post r) → (∀ s' post', ok s' → μ s' < μ s → (∀ r, Q s' r → post' r) → W d post' s') → W (d + 1) post s) :
    ∀ d s post, ok s → μ s < d → (∀ r, Q s r → post r) → W d post s := by
  intro d
  induction d with
  | zero => intro s post _ h; omega
  | succ d ih =>
    intro s post ho hm hp
    exact hs d s post ho hp (fun s' post' ho' hm' hp' => ih s' post' ho' (by omega) hp')
def bx_sum (f : Nat → Int32) : Nat → Int32
  | 0 => 0
  | n + 1 => bx_sum f n + f n
theorem ek_u {A : Prop} {B : Nat → Prop} {k N : Nat} (hk : k < N) (h : B k) : (some k = none → A) ∧ (∀ y : Nat, some k = some y → (y < N ∧ B y)) :=
  ⟨fun z => absurd z (Option.some_ne_none k), fun _ e => (by cases e; exact ⟨hk, h⟩)⟩
theorem ek_nu {A : Prop} {B : Nat → Prop} (h : A) : ((none : Option Nat) = none → A) ∧ (∀ y : Nat, (none : Option Nat) = some y → B y) :=
  ⟨fun _ => h, fun _ e => (by cases e)⟩
theorem ek_if {c d A B : Prop} (e : c ↔ d) (f : d → A) (g : ¬ d → B) : (c → A) ∧ (¬ c → B) :=
  ⟨fun z => f (e.mp z), fun z => g (fun y => z (e.mpr y))⟩
theorem ek_v {α : Sort _} {P : α → Prop} {a b : α} (e : a = b) (h : P b) : P a := e ▸ h
theorem co_some {x : Option Nat} {A : Prop} {B : Nat → Prop} (i : Nat) (h : B i) (hx : x = some i := by rfl) : (x = none → A) ∧ (∀ y : Nat, x = some y → B y) := by
  subst hx
  exact ⟨fun e => (nomatch e), fun y e => Option.some.inj e ▸ h⟩
theorem co_none {x : Option Nat} {A : Prop} {B : Nat → Prop} (h : A) (hx : x = none := by rfl) : (x = none → A) ∧ (∀ y : Nat, x = some y → B y) := by
  subst hx
  exact ⟨fun _ => h, fun y e => (nomatch e)⟩
theorem co_any {x : Option Nat} {A : Prop} {B : Nat → Prop} (hn : x = none → A) (hs : ∀ i : Nat, x = some i → B i) : (x = none → A) ∧ (∀ y : Nat, x = some y → B y) := ⟨hn, hs⟩
theorem co_2 {P : Nat → Prop} (h0 : P 0) (h1 : P 1) {i : Nat} (hi : i < 2) : P i :=
  match i, hi with
  | 0, _ => h0
  | 1, _ => h1
theorem co_3 {P : Nat → Prop} (h0 : P 0) (h1 : P 1) (h2 : P 2) {i : Nat} (hi : i < 3) : P i :=
  match i, hi with
  | 0, _ => h0
  | 1, _ => h1
  | 2, _ => h2
theorem co_4 {P : Nat → Prop} (h0 : P 0) (h1 : P 1) (h2 : P 2) (h3 : P 3) {i : Nat} (hi : i < 4) : P i :=
  match i, hi with
  | 0, _ => h0
  | 1, _ => h1
  | 2, _ => h2
  | 3, _ => h3
theorem co_dec {N : Nat} {P : Nat → Prop} [DecidablePred P] (h : (List.range N).all (fun i => decide (P i)) = true) {i : Nat} (hi : i < N) : P i := by
  have := List.all_eq_true.mp h i (List.mem_range.mpr hi)
  exact of_decide_eq_true this
theorem co_tab {α : Type} {l : List α} {d : α} {P : α → Prop} (h : ∀ a, a ∈ l → P a) {i : Nat} (hi : i < l.length) : P (l.getD i d) := by
  rw [List.getD_eq_getElem?_getD, List.getElem?_eq_getElem hi]
  exact h _ (List.getElem_mem hi)
theorem pk_mu {x : Int32} {L : Nat} (h0 : ¬ x < 0) (h : ¬ nI L ≤ x) (hL : L < 2 ^ 31) : ∃ j : Nat, j < L ∧ x = nI j ∧ x + 1 = nI (j + 1) ∧ x.toNatClampNeg = j ∧ L - (x + 1).toNatClampNeg < L - x.toNatClampNeg := by
  obtain ⟨j, hj, rfl⟩ := nI_of h0
  have hl : j < L := Nat.not_le.mp fun q => h (nI_le q hj)
  refine ⟨j, hl, rfl, nI_1 j, nI_clamp hj, ?_⟩
  rw [nI_1, nI_clamp (by omega), nI_clamp hj]
  omega
theorem op_s {α : Type} {r : Option α} {A : Prop} {B : α → Prop} {y : α} (h : r = some y) (b : B y) : (r = none → A) ∧ ∀ z, r = some z → B z :=
  ⟨fun e => (by rw [h] at e; cases e), fun z e => (by rw [h] at e; cases e; exact b)⟩
def l_holds {α : Type} (a : Nat → Option Nat) (LP : List Nat) (p : Nat → α) (c : Nat) (b : Nat → α) : Prop :=
  ∀ j, j < c → ∃ y, a j = some y ∧ y ∈ LP ∧ p y = b j
theorem l_holds_0 {α : Type} {a : Nat → Option Nat} {LP : List Nat} {p b : Nat → α} : l_holds a LP p 0 b := fun j h => absurd h (Nat.not_lt_zero j)
theorem l_in_new (LP : List Nat) (q : Nat) : q ∈ LP ++ [q] := List.mem_append.mpr (Or.inr (List.mem_singleton.mpr rfl))
def l_sum (b : Nat → Int32) : Nat → Int32
  | 0 => 0
  | k + 1 => l_sum b k + b k
theorem sb_shr0 (x : Int32) : x >>> ((0 : Int32) &&& 31) = x := by
  rw [show ((0 : Int32) &&& 31) = 0 by decide]
  simp
theorem sb_shl0 (x : Int32) : x <<< ((0 : Int32) &&& 31) = x := by
  rw [show ((0 : Int32) &&& 31) = 0 by decide]
  simp
theorem sb_cl0 : (0 : Int32).toNatClampNeg = 0 := by decide
theorem sb_m1 {p : Nat} (h : 0 < p) : nI p + (-1) = nI (p - 1) := by
  obtain ⟨q, rfl⟩ : ∃ q, p = q + 1 := ⟨p - 1, by omega⟩
  exact pk_m1 q
def sb_b (c : Nat) : Int32 := (nI c).toInt8.toInt32
theorem sb_byte : ∀ c, c < 256 → sb_b c &&& 255 = nI c ∧ ((nI c).toUInt32 % 65536).toInt32 = nI c ∧ nI c ≤ 255 := by decide +kernel
def sb_Fit (a : Nat → Int32) : Prop := ∀ j, fits .byte (.int (a j)) = true
def sb_Lat (t : Nat → Nat) (n : Nat) (a : Nat → Int32) : Prop := ∀ j, j < n → t j < 256 ∧ a j = sb_b (t j)
theorem sb_fitB (c : Nat) : fits .byte (.int (sb_b c)) = true := pk_fb _
theorem sb_fit0 : sb_Fit (fun _ => 0) := fun _ => by
  show fits .byte (.int 0) = true
  decide
theorem sb_fitU {a : Nat → Int32} {k : Nat} {x : Int32} (h : sb_Fit a) (hx : fits .byte (.int x) = true) : sb_Fit (upd a k x) := by
  intro j
  by_cases e : j = k
  · subst e
    rw [pk_us]
    exact hx
  · rw [pk_un e]
    exact h j
def sb_cat (t : Nat → Nat) (n : Nat) (s : Nat → Nat) : Nat → Nat := fun j => if j < n then t j else s (j - n)
theorem sb_cat_lo {t s : Nat → Nat} {n j : Nat} (h : j < n) : sb_cat t n s j = t j := if_pos h
theorem sb_cat_hi {t s : Nat → Nat} {n j : Nat} : sb_cat t n s (n + j) = s j := by
  show (if n + j < n then t (n + j) else s (n + j - n)) = s j
  rw [if_neg (by omega), Nat.add_sub_cancel_left]
theorem sb_latPut {t s : Nat → Nat} {n w : Nat} {a a' : Nat → Int32} (h : sb_Lat t n a) (hk : ∀ j, j < n → a' j = a j) (hs : ∀ i, i < w → s i < 256 ∧ a' (n + i) = sb_b (s i)) : sb_Lat (sb_cat t n s) (n + w) a' := by
  intro j hj
  by_cases e : j < n
  · rw [sb_cat_lo e, hk j e]
    exact h j e
  · obtain ⟨i, rfl⟩ : ∃ i, j = n + i := ⟨j - n, by omega⟩
    rw [sb_cat_hi]
    exact hs i (by omega)
theorem sb_latKeep {t : Nat → Nat} {n : Nat} {a a' : Nat → Int32} (h : sb_Lat t n a) (hk : ∀ j, j < n → a' j = a j) : sb_Lat t n a' := fun j hj => by
  rw [hk j hj]
  exact h j hj
def sb_cap (q m : Nat) : Nat := if q ≤ m then m else if 2 * m + 2 < q then q else 2 * m + 2
def sb_Room (q m mc ms : Nat) : Prop := q ≤ m ∨ (1 ≤ mc ∧ sb_cap q m ≤ ms ∧ sb_cap q m ≤ 65536)
theorem sb_cap_ge (q m : Nat) : q ≤ sb_cap q m := by
  unfold sb_cap
  split
  · omega
  · split <;> omega
theorem sb_cap_gem (q m : Nat) : m ≤ sb_cap q m := by
  unfold sb_cap
  split
  · omega
  · split <;> omega
theorem sb_cap_le {q m mc ms : Nat} (hm : m ≤ 65536) (hr : sb_Room q m mc ms) : sb_cap q m ≤ 65536 := by
  rcases hr with h | h
  · rw [sb_cap, if_pos h]
    exact hm
  · exact h.2.2
theorem sb_at {P : Int32 → Prop} {x y : Int32} (e : x = y) (h : P y) : P x := e ▸ h
def sb_dg (w : Nat) : Nat := if w < 10 then 1 else if w < 100 then 2 else if w < 1000 then 3 else if w < 10000 then 4 else if w < 100000 then 5 else if w < 1000000 then 6 else if w < 10000000 then 7 else if w < 100000000 then 8 else if w < 1000000000 then 9 else 10
def sb_dec (v : Nat) : Nat → Nat := fun i => 48 + v / 10 ^ (sb_dg v - 1 - i) % 10
theorem sb_dg_in (w : Nat) : 1 ≤ sb_dg w ∧ sb_dg w ≤ 10 := by
  unfold sb_dg
  constructor <;> (repeat' split) <;> omega
theorem sb_dg100 {w : Nat} (h : 100 ≤ w) (hw : w < 2 ^ 31) : sb_dg w = sb_dg (w / 100) + 2 := by
  rw [sb_dg, sb_dg, if_neg (show ¬ w < 10 by omega), if_neg (show ¬ w < 100 by omega)]
  by_cases h3 : w < 1000
  · rw [if_pos h3, if_pos (show w / 100 < 10 by omega)]
  rw [if_neg h3, if_neg (show ¬ w / 100 < 10 by omega)]
  by_cases h4 : w < 10000
  · rw [if_pos h4, if_pos (show w / 100 < 100 by omega)]
  rw [if_neg h4, if_neg (show ¬ w / 100 < 100 by omega)]
  by_cases h5 : w < 100000
  · rw [if_pos h5, if_pos (show w / 100 < 1000 by omega)]
  rw [if_neg h5, if_neg (show ¬ w / 100 < 1000 by omega)]
  by_cases h6 : w < 1000000
  · rw [if_pos h6, if_pos (show w / 100 < 10000 by omega)]
  rw [if_neg h6, if_neg (show ¬ w / 100 < 10000 by omega)]
  by_cases h7 : w < 10000000
  · rw [if_pos h7, if_pos (show w / 100 < 100000 by omega)]
  rw [if_neg h7, if_neg (show ¬ w / 100 < 100000 by omega)]
  by_cases h8 : w < 100000000
  · rw [if_pos h8, if_pos (show w / 100 < 1000000 by omega)]
  rw [if_neg h8, if_neg (show ¬ w / 100 < 1000000 by omega)]
  by_cases h9 : w < 1000000000
  · rw [if_pos h9, if_pos (show w / 100 < 10000000 by omega)]
  rw [if_neg h9, if_neg (show ¬ w / 100 < 10000000 by omega)]
  rw [if_pos (show w / 100 < 100000000 by omega)]
theorem sb_negT {w : Nat} (h : w < 2 ^ 31) : (-nI w).toInt = -(w : Int) := by
  rw [Int32.toInt_neg, nI_toInt h]
  exact Int.bmod_eq_of_le (by omega) (by omega)
theorem sb_nle {a b : Nat} (ha : a < 2 ^ 31) (hb : b < 2 ^ 31) : -nI a ≤ -nI b ↔ b ≤ a := by
  rw [Int32.le_iff_toInt_le, sb_negT ha, sb_negT hb]
  omega
theorem sb_nlt {a b : Nat} (ha : a < 2 ^ 31) (hb : b < 2 ^ 31) : -nI a < -nI b ↔ b < a := by
  rw [Int32.lt_iff_toInt_lt, sb_negT ha, sb_negT hb]
  omega
theorem sb_cmp {A B : Prop} {x : Int32} (v c : Nat) (f : c ≤ v → A) (g : v < c → B) (hv : v < 2 ^ 31) (hx : x = -nI c := by rfl) (hc : c < 2 ^ 31 := by omega) : (-nI v ≤ x → A) ∧ (¬ -nI v ≤ x → B) := by
  subst hx
  rw [sb_nle hv hc]
  exact ⟨f, fun z => g (by omega)⟩
theorem sb_ndiv {w : Nat} (hw : w < 2 ^ 31) : (-nI w) / 100 = -nI (w / 100) := by
  apply Int32.toInt_inj.mp
  have h100 : (100 : Int32).toInt = 100 := by decide
  rw [Int32.toInt_div, sb_negT hw, h100, sb_negT (by omega), Int.neg_tdiv, Int.tdiv_eq_ediv_of_nonneg (by omega), Int.bmod_eq_of_le (by omega) (by omega)]
  omega
theorem sb_nrem {w : Nat} (hw : w < 2 ^ 31) : (-nI (w / 100)) * 100 - (-nI w) = nI (w % 100) := by
  have h := pk_rem (a := w) (d := 100) hw (by decide) (by decide)
  rw [pk_div hw (by decide) (by decide)] at h
  rw [← h]
  show (-nI (w / 100)) * nI 100 - (-nI w) = nI w - nI (w / 100) * nI 100
  rw [Int32.neg_mul, Int32.sub_neg, Int32.add_comm, ← Int32.sub_eq_add_neg]
end
section
/-! rows on bits, shifts and unsigned numbers, to paste: each family out of a closed proof of our own, whole with what it rests on; each by itself clean at Lean in its own claim (generation 39, form 5). Take a family whole -/
/-! ===== Int32 by its bits: bt x i ===== -/
def bt (x : Int32) (i : Nat) : Bool := x.toBitVec.getLsbD i
theorem b_ext {x y : Int32} (h : ∀ i, i < 32 → bt x i = bt y i) : x = y := Int32.toBitVec_inj.mp (BitVec.eq_of_getLsbD_eq (fun i hi => h i hi))
theorem b_or (x y : Int32) (i : Nat) : bt (x ||| y) i = (bt x i || bt y i) := by unfold bt; rw [Int32.toBitVec_or, BitVec.getLsbD_or]
theorem b_and (x y : Int32) (i : Nat) : bt (x &&& y) i = (bt x i && bt y i) := by unfold bt; rw [Int32.toBitVec_and, BitVec.getLsbD_and]
theorem b_xor (x y : Int32) (i : Nat) : bt (x ^^^ y) i = (bt x i ^^ bt y i) := by unfold bt; rw [Int32.toBitVec_xor, BitVec.getLsbD_xor]
theorem b_big {x : Int32} {i : Nat} (h : 32 ≤ i) : bt x i = false := BitVec.getLsbD_of_ge _ _ h
theorem b_255 (i : Nat) : bt 255 i = decide (i < 8) := by
  rcases Nat.lt_or_ge i 32 with h | h
  · exact (by decide +kernel : ∀ i, i < 32 → bt 255 i = decide (i < 8)) i h
  · rw [b_big h, decide_eq_false (by omega)]
theorem b_65535 (i : Nat) : bt 65535 i = decide (i < 16) := by
  rcases Nat.lt_or_ge i 32 with h | h
  · exact (by decide +kernel : ∀ i, i < 32 → bt 65535 i = decide (i < 16)) i h
  · rw [b_big h, decide_eq_false (by omega)]
theorem b_m1 : ∀ i, i < 32 → bt (-1) i = true := by decide +kernel
theorem b_0 (i : Nat) : bt 0 i = false := BitVec.getLsbD_zero
theorem s_l : ∀ n, n < 32 → ((nI n &&& 31).toBitVec.smod 32).toNat = n := by decide +kernel
theorem s_u : ∀ n, n < 32 → (((nI n).toUInt32 &&& Int32.toUInt32 31).toBitVec % 32).toNat = n := by decide +kernel
theorem b_shl (n : Nat) (hn : n < 32) (x : Int32) {i : Nat} (hi : i < 32) : bt (x <<< (nI n &&& 31)) i = (decide (n ≤ i) && bt x (i - n)) := by
  unfold bt
  rw [Int32.toBitVec_shiftLeft]
  show (x.toBitVec <<< ((nI n &&& 31).toBitVec.smod 32).toNat).getLsbD i = _
  rw [s_l n hn, BitVec.getLsbD_shiftLeft]
  rcases Nat.lt_or_ge i n with h | h
  · simp [h, Nat.not_le.mpr h]
  · simp [hi, h, Nat.not_lt.mpr h]
theorem b_ushr (n : Nat) (hn : n < 32) (x : Int32) (i : Nat) : bt ((x.toUInt32 >>> ((nI n).toUInt32 &&& Int32.toUInt32 31)).toInt32) i = bt x (n + i) := by
  show (x.toUInt32 >>> ((nI n).toUInt32 &&& Int32.toUInt32 31)).toBitVec.getLsbD i = x.toUInt32.toBitVec.getLsbD (n + i)
  rw [UInt32.toBitVec_shiftRight]
  show (x.toUInt32.toBitVec >>> (((nI n).toUInt32 &&& Int32.toUInt32 31).toBitVec % 32).toNat).getLsbD i = _
  rw [s_u n hn, BitVec.getLsbD_ushiftRight]
theorem b_sshr (n : Nat) (hn : n < 32) (x : Int32) {i : Nat} (hi : i < 32) : bt (x >>> (nI n &&& 31)) i = if n + i < 32 then bt x (n + i) else bt x 31 := by
  unfold bt
  rw [Int32.toBitVec_shiftRight]
  show (x.toBitVec.sshiftRight ((nI n &&& 31).toBitVec.smod 32).toNat).getLsbD i = _
  rw [s_l n hn, BitVec.getLsbD_sshiftRight, BitVec.msb_eq_getLsbD_last]
  simp [hi]
theorem b_shl8 (x : Int32) {i : Nat} (hi : i < 32) : bt (x <<< ((8 : Int32) &&& 31)) i = (decide (8 ≤ i) && bt x (i - 8)) := b_shl 8 (by omega) x hi
theorem b_shl16 (x : Int32) {i : Nat} (hi : i < 32) : bt (x <<< ((16 : Int32) &&& 31)) i = (decide (16 ≤ i) && bt x (i - 16)) := b_shl 16 (by omega) x hi
theorem b_shl24 (x : Int32) {i : Nat} (hi : i < 32) : bt (x <<< ((24 : Int32) &&& 31)) i = (decide (24 ≤ i) && bt x (i - 24)) := b_shl 24 (by omega) x hi
theorem b_sshr8 (x : Int32) {i : Nat} (hi : i < 32) : bt (x >>> ((8 : Int32) &&& 31)) i = if 8 + i < 32 then bt x (8 + i) else bt x 31 := b_sshr 8 (by omega) x hi
/-! ===== nI under and, xor, >>>, one bit, 65535 ===== -/
theorem nx_and (a b : Nat) : nI a &&& nI b = nI (a &&& b) := by
  apply Int32.toBitVec_inj.1
  show BitVec.ofNat 32 a &&& BitVec.ofNat 32 b = BitVec.ofNat 32 (a &&& b)
  apply BitVec.eq_of_getLsbD_eq
  intro i hi
  simp [hi]
theorem nx_xor (a b : Nat) : nI a ^^^ nI b = nI (a ^^^ b) := by
  apply Int32.toBitVec_inj.1
  show BitVec.ofNat 32 a ^^^ BitVec.ofNat 32 b = BitVec.ofNat 32 (a ^^^ b)
  apply BitVec.eq_of_getLsbD_eq
  intro i hi
  simp [hi]
theorem nx_cnt : ∀ j : Fin 32, (UInt32.ofNat j.val &&& Int32.toUInt32 31).toNat % 32 = j.val := by decide +kernel
theorem nx_ush {k j : Nat} (hk : k < 65536) (hj : j < 32) : ((nI k).toUInt32 >>> ((nI j).toUInt32 &&& Int32.toUInt32 31)).toInt32 = nI (k >>> j) := by
  have hs : k >>> j ≤ k := by
    rw [Nat.shiftRight_eq_div_pow]
    exact Nat.div_le_self _ _
  have e2 : UInt32.ofNat k >>> (UInt32.ofNat j &&& Int32.toUInt32 31) = UInt32.ofNat (k >>> j) := by
    apply UInt32.toNat_inj.1
    have h1 : (UInt32.ofNat k).toNat = k := Nat.mod_eq_of_lt (by omega)
    have h2 : (UInt32.ofNat (k >>> j)).toNat = k >>> j := Nat.mod_eq_of_lt (by omega)
    rw [UInt32.toNat_shiftRight, nx_cnt ⟨j, hj⟩, h1, h2]
  show (UInt32.ofNat k >>> (UInt32.ofNat j &&& Int32.toUInt32 31)).toInt32 = _
  rw [e2]
  rfl
theorem nx_bit {k j : Nat} (hk : k < 65536) (hj : j < 16) : (((nI k).toUInt32 >>> ((nI j).toUInt32 &&& Int32.toUInt32 31)).toInt32 &&& 1) = 0 ↔ k.testBit j = false := by
  rw [nx_ush hk (by omega)]
  show nI (k >>> j) &&& nI 1 = 0 ↔ _
  rw [nx_and, Nat.and_one_is_mod, ← nI_0, nI_eq (by omega) (by omega), Nat.testBit_eq_decide_div_mod_eq, Nat.shiftRight_eq_div_pow, decide_eq_false_iff_not]
  generalize k / 2 ^ j = z
  omega
theorem nx_mod (k : Nat) : nI k &&& 65535 = nI (k % 65536) := by
  show nI k &&& nI 65535 = _
  rw [nx_and, show (65535 : Nat) = 2 ^ 16 - 1 from rfl, Nat.and_two_pow_sub_one_eq_mod]
theorem nx_m16 {k : Nat} (h : k < 65536) : nI k &&& 65535 = nI k := by rw [nx_mod, Nat.mod_eq_of_lt h]
theorem nx_mask (x : Int32) : ∃ k, k < 65536 ∧ x &&& 65535 = nI k := by
  have e : x = nI x.toBitVec.toNat := by
    apply Int32.toBitVec_inj.1
    show x.toBitVec = BitVec.ofNat 32 x.toBitVec.toNat
    simp
  refine ⟨x.toBitVec.toNat % 65536, Nat.mod_lt _ (by omega), ?_⟩
  rw [← nx_mod, ← e]
/-! ===== Int32 as a set of bits: test, set ===== -/
def nf_M (m : Int32) : Nat := 4294967296 - m.toBitVec.toNat
theorem nf_sh : ∀ l, l < 32 → ((1 : Int32) <<< (nI l &&& 31)).toBitVec = BitVec.twoPow 32 l := by decide +kernel
theorem nf_sl : ∀ l, l < 32 → (((nI l).toUInt32 &&& Int32.toUInt32 31).toBitVec % 32).toNat = l := by decide +kernel
theorem nf_tp : ∀ l, l < 32 → BitVec.twoPow 32 l ≠ 0#32 := by decide +kernel
theorem nf_bit (m : Int32) (l : Nat) (hl : l < 32) : ((m.toUInt32 >>> ((nI l).toUInt32 &&& Int32.toUInt32 31)).toInt32 &&& 1) = 0 ↔ (m &&& ((1 : Int32) <<< (nI l &&& 31))) = 0 := by
  have e : ((m.toUInt32 >>> ((nI l).toUInt32 &&& Int32.toUInt32 31)).toInt32).toBitVec = m.toBitVec >>> l := by
    show m.toBitVec >>> (((nI l).toUInt32 &&& Int32.toUInt32 31).toBitVec % 32) = m.toBitVec >>> l
    rw [BitVec.ushiftRight_eq', nf_sl l hl]
  rw [← Int32.toBitVec_inj, ← Int32.toBitVec_inj, Int32.toBitVec_and, Int32.toBitVec_and, nf_sh l hl, e, BitVec.and_twoPow]
  show (m.toBitVec >>> l &&& 1#32) = 0#32 ↔ _ = 0#32
  rw [BitVec.and_one_eq_setWidth_ofBool_getLsbD, BitVec.getLsbD_ushiftRight, Nat.add_zero]
  cases hb : m.toBitVec.getLsbD l
  · exact ⟨fun _ => by simp, fun _ => by decide⟩
  · exact ⟨fun z => absurd z (by decide), fun z => absurd ((if_pos rfl).symm.trans z) (nf_tp l hl)⟩
theorem nf_gr (m k : Int32) (h : m &&& k = 0) (hk : k ≠ 0) : nf_M (m ||| k) < nf_M m := by
  have hm := m.toBitVec.isLt
  have hm' := (m ||| k).toBitVec.isLt
  have h1 : m.toBitVec.toNat ≤ (m ||| k).toBitVec.toNat := by
    rw [Int32.toBitVec_or, BitVec.toNat_or]
    exact Nat.left_le_or
  have h2 : m.toBitVec.toNat ≠ (m ||| k).toBitVec.toNat := by
    intro e
    have e2 : m = m ||| k := Int32.toBitVec_inj.mp (BitVec.eq_of_toNat_eq e)
    apply hk
    apply Int32.toBitVec_inj.mp
    show k.toBitVec = 0#32
    apply BitVec.eq_of_getLsbD_eq
    intro i hi
    have a : m.toBitVec.getLsbD i = (m.toBitVec.getLsbD i || k.toBitVec.getLsbD i) := by rw [← BitVec.getLsbD_or, ← Int32.toBitVec_or, ← e2]
    have b : (m.toBitVec.getLsbD i && k.toBitVec.getLsbD i) = false := by
      rw [← BitVec.getLsbD_and, ← Int32.toBitVec_and, h]
      exact BitVec.getLsbD_zero
    rw [BitVec.getLsbD_zero]
    revert a b
    cases m.toBitVec.getLsbD i <;> cases k.toBitVec.getLsbD i <;> simp
  unfold nf_M
  omega
/-! ===== a byte read unsigned ===== -/
theorem bp_b (x : Int32) : x.toInt8.toInt32 &&& 255 = x &&& 255 := by
  apply Int32.toBitVec_inj.mp
  rw [Int32.toBitVec_and, Int32.toBitVec_and, Int8.toBitVec_toInt32, Int32.toBitVec_toInt8]
  apply BitVec.eq_of_getLsbD_eq
  intro i hi
  rw [BitVec.getLsbD_and, BitVec.getLsbD_and]
  have hm : ∀ i < 32, 8 ≤ i → (255 : Int32).toBitVec.getLsbD i = false := by decide
  rcases Nat.lt_or_ge i 8 with z | z
  · rw [BitVec.getLsbD_signExtend, BitVec.getLsbD_signExtend, if_pos z, if_pos hi]
    simp only [z, hi, decide_true, Bool.true_and]
  · rw [hm i hi z]; simp
/-! ===== the char cast and 65535 ===== -/
theorem em_w (v : Int32) : ∃ w : Nat, w < 65536 ∧ (v.toUInt32 % 65536).toInt32 = nI w ∧ v &&& 65535 = nI w := by
  have hr := lw_u16_r v
  have h0 : (0 : Int32).toInt = 0 := by decide
  obtain ⟨w, h1, h2⟩ := nI_of (x := lw_u16 v) (by rw [Int32.lt_iff_toInt_lt]; omega)
  have h3 : (v.toUInt32 % 65536).toInt32 = nI w := h2
  rw [h2, nI_toInt h1] at hr
  exact ⟨w, by omega, h3, by rw [← lg_i2c_mask, ← lg_i2c_nf, h3]⟩
/-! ===== Int64 as a set of bits: test, set, clear ===== -/
theorem ts_nf {x : Bool} (h : ¬ x = false) : x = true := by cases x <;> first | rfl | exact absurd rfl h
theorem ts_nt {x : Bool} (h : ¬ x = true) : x = false := by cases x <;> first | rfl | exact absurd rfl h
theorem ts_bit {w : Int64} {s : UInt64} {j : Nat} (hj : j < 64) (hs : s.toNat = j) : ((w.toUInt64 >>> s).toInt64 &&& 1) = 0 ↔ w.toBitVec.getLsbD j = false := by
  have e : (w.toUInt64 >>> s).toInt64.toBitVec = w.toBitVec >>> j := by
    apply BitVec.eq_of_toNat_eq
    show (w.toUInt64 >>> s).toNat = _
    rw [UInt64.toNat_shiftRight, hs, Nat.mod_eq_of_lt hj, BitVec.toNat_ushiftRight]
    rfl
  rw [← Int64.toBitVec_inj, Int64.toBitVec_and, e]
  show w.toBitVec >>> j &&& 1#64 = 0#64 ↔ _
  constructor
  · intro h
    have t := congrArg (fun x => x.getLsbD 0) h
    simpa using t
  · intro h
    apply BitVec.eq_of_getLsbD_eq
    intro i hi
    cases i with
    | zero => simp [h]
    | succ i => simp
theorem ts_or {w m : Int64} {j : Nat} (hj : j < 64) (hm : m.toBitVec = BitVec.twoPow 64 j) : (w ||| m) = w ↔ w.toBitVec.getLsbD j = true := by
  rw [← Int64.toBitVec_inj, Int64.toBitVec_or, hm]
  constructor
  · intro h
    have t := congrArg (fun x => x.getLsbD j) h
    simp only [BitVec.getLsbD_or, BitVec.getLsbD_twoPow] at t
    simpa [hj] using t.symm
  · intro h
    apply BitVec.eq_of_getLsbD_eq
    intro i hi
    rw [BitVec.getLsbD_or, BitVec.getLsbD_twoPow]
    by_cases e : j = i
    · subst e; rw [h, Bool.true_or]
    · simp [e]
theorem ts_and {w m : Int64} {j : Nat} (hj : j < 64) (hm : m.toBitVec = BitVec.twoPow 64 j) : (w &&& (m ^^^ (-1))) = w ↔ w.toBitVec.getLsbD j = false := by
  have ha : (-1 : Int64).toBitVec = BitVec.allOnes 64 := by decide
  rw [← Int64.toBitVec_inj, Int64.toBitVec_and, Int64.toBitVec_xor, hm, ha]
  constructor
  · intro h
    have t := congrArg (fun x => x.getLsbD j) h
    simp only [BitVec.getLsbD_and, BitVec.getLsbD_xor, BitVec.getLsbD_twoPow, BitVec.getLsbD_allOnes] at t
    simpa [hj] using t.symm
  · intro h
    apply BitVec.eq_of_getLsbD_eq
    intro i hi
    rw [BitVec.getLsbD_and, BitVec.getLsbD_xor, BitVec.getLsbD_twoPow, BitVec.getLsbD_allOnes]
    by_cases e : j = i
    · subst e; rw [h, Bool.false_and]
    · simp [e, hi]
/-! ===== lN n to 2^64: shifts, and, or, masks, one bit ===== -/
theorem wb_tb (n : Nat) : (lN n).toBitVec = BitVec.ofNat 64 n := rfl
theorem wb_inj {a b : Int64} (h : a.toBitVec = b.toBitVec) : a = b := Int64.toBitVec_inj.mp h
theorem wb_tn {n : Nat} (h : n < 2 ^ 64) : (lN n).toBitVec.toNat = n := by rw [wb_tb, BitVec.toNat_ofNat, Nat.mod_eq_of_lt h]
theorem wb_of (x : Int64) : ∃ n, n < 2 ^ 64 ∧ x = lN n := ⟨x.toBitVec.toNat, x.toBitVec.isLt, wb_inj (by rw [wb_tb]; simp)⟩
theorem wb_of32 (x : Int32) : ∃ n, n < 2 ^ 32 ∧ x = nI n := ⟨x.toBitVec.toNat, x.toBitVec.isLt, Int32.toBitVec_inj.mp (by show _ = BitVec.ofNat 32 _; simp)⟩
theorem wb_c : ∀ k, k < 64 → ((nI k).toInt64 &&& 63) = lN k := by decide +kernel
theorem wb_cu : ∀ k, k < 64 → ((nI k).toInt64.toUInt64 &&& Int64.toUInt64 63) = UInt64.ofNat k := by decide +kernel
theorem wb_sm : ∀ k, k < 64 → (BitVec.ofNat 64 k).smod 64 = BitVec.ofNat 64 k := by decide +kernel
theorem wb_pw {a b : Nat} (h : a ≤ b) : 2 ^ b = 2 ^ a * 2 ^ (b - a) := by rw [← Nat.pow_add]; congr 1; omega
theorem wb_lt2 {a b : Nat} (h : a < b) : 2 ^ a < 2 ^ b := Nat.pow_lt_pow_right (by decide) h
theorem wb_mod (n : Nat) : lN n = lN (n % 2 ^ 64) := wb_inj (by rw [wb_tb, wb_tb]; apply BitVec.eq_of_toNat_eq; rw [BitVec.toNat_ofNat, BitVec.toNat_ofNat, Nat.mod_mod])
theorem wb_shr {n k : Nat} (hn : n < 2 ^ 64) (hk : k < 64) : ((lN n).toUInt64 >>> ((nI k).toInt64.toUInt64 &&& Int64.toUInt64 63)).toInt64 = lN (n / 2 ^ k) := by
  rw [wb_cu k hk]
  apply wb_inj
  apply BitVec.eq_of_toNat_eq
  show ((lN n).toUInt64 >>> UInt64.ofNat k).toNat = (BitVec.ofNat 64 _).toNat
  have h1 : (UInt64.ofNat k).toNat = k := by
    show (BitVec.ofNat 64 k).toNat = k
    rw [BitVec.toNat_ofNat, Nat.mod_eq_of_lt (by omega)]
  have h2 : (lN n).toUInt64.toNat = n := wb_tn hn
  rw [UInt64.toNat_shiftRight, h1, h2, Nat.mod_eq_of_lt hk, Nat.shiftRight_eq_div_pow, BitVec.toNat_ofNat, Nat.mod_eq_of_lt (Nat.lt_of_le_of_lt (Nat.div_le_self _ _) hn)]
theorem wb_shl (n : Nat) {k : Nat} (hk : k < 64) : lN n <<< ((nI k).toInt64 &&& 63) = lN (n * 2 ^ k) := by
  rw [wb_c k hk]
  apply wb_inj
  rw [Int64.toBitVec_shiftLeft, wb_tb, wb_tb, wb_tb, wb_sm k hk]
  apply BitVec.eq_of_toNat_eq
  rw [BitVec.shiftLeft_eq', BitVec.toNat_shiftLeft, BitVec.toNat_ofNat, BitVec.toNat_ofNat, BitVec.toNat_ofNat, Nat.mod_eq_of_lt (show k < 2 ^ 64 by omega), Nat.shiftLeft_eq, Nat.mul_mod, Nat.mod_mod, ← Nat.mul_mod]
theorem wb_and {a b : Nat} (ha : a < 2 ^ 64) (hb : b < 2 ^ 64) : lN a &&& lN b = lN (a &&& b) := by
  apply wb_inj
  rw [Int64.toBitVec_and, wb_tb, wb_tb, wb_tb]
  apply BitVec.eq_of_toNat_eq
  rw [BitVec.toNat_and, BitVec.toNat_ofNat, BitVec.toNat_ofNat, BitVec.toNat_ofNat, Nat.mod_eq_of_lt ha, Nat.mod_eq_of_lt hb, Nat.mod_eq_of_lt (Nat.and_lt_two_pow _ hb)]
theorem wb_or {a b : Nat} (ha : a < 2 ^ 64) (hb : b < 2 ^ 64) : lN a ||| lN b = lN (a ||| b) := by
  apply wb_inj
  rw [Int64.toBitVec_or, wb_tb, wb_tb, wb_tb]
  apply BitVec.eq_of_toNat_eq
  rw [BitVec.toNat_or, BitVec.toNat_ofNat, BitVec.toNat_ofNat, BitVec.toNat_ofNat, Nat.mod_eq_of_lt ha, Nat.mod_eq_of_lt hb, Nat.mod_eq_of_lt (Nat.or_lt_two_pow ha hb)]
theorem wb_mask {n k : Nat} (hn : n < 2 ^ 64) (hk : k < 64) : lN n &&& lN (2 ^ k - 1) = lN (n % 2 ^ k) := by
  rw [wb_and hn (by have := wb_lt2 hk; omega), Nat.and_two_pow_sub_one_eq_mod]
theorem wb_a1 {n : Nat} (hn : n < 2 ^ 64) : lN n &&& 1 = lN (n % 2) := wb_mask (k := 1) hn (by decide)
theorem wb_bit {n k : Nat} (hn : n < 2 ^ 64) (hk : k < 64) : ((lN n).toUInt64 >>> ((nI k).toInt64.toUInt64 &&& Int64.toUInt64 63)).toInt64 &&& 1 = lN (n / 2 ^ k % 2) := by
  rw [wb_shr hn hk, wb_a1 (Nat.lt_of_le_of_lt (Nat.div_le_self _ _) hn)]
theorem wb_xor {q k : Nat} (hk : k < 63) (h : 2 ^ k ≤ q) (h2 : q < 2 ^ (k + 1)) : lN q ^^^ lN (2 ^ k) = lN (q - 2 ^ k) := by
  obtain ⟨r, rfl⟩ : ∃ r, q = 2 ^ k + r := ⟨q - 2 ^ k, by omega⟩
  have hr : r < 2 ^ k := by rw [Nat.pow_succ] at h2; omega
  have hx : (2 ^ k + r) ^^^ 2 ^ k = r := by
    apply Nat.eq_of_testBit_eq
    intro i
    rw [Nat.testBit_xor, Nat.testBit_two_pow]
    rcases Nat.lt_trichotomy i k with h | h | h
    · rw [Nat.testBit_two_pow_add_gt h]
      simp [show ¬ k = i by omega]
    · subst h
      rw [Nat.testBit_two_pow_add_eq]
      simp
    · have a1 : 2 ^ (k + 1) ≤ 2 ^ i := Nat.pow_le_pow_right (by decide) h
      rw [Nat.testBit_lt_two_pow (show 2 ^ k + r < 2 ^ i by omega), Nat.testBit_lt_two_pow (show r < 2 ^ i by omega)]
      simp [show ¬ k = i by omega]
  have b1 := wb_lt2 (show k + 1 < 64 by omega)
  have b2 := wb_lt2 (show k < 64 by omega)
  apply wb_inj
  rw [Int64.toBitVec_xor, wb_tb, wb_tb, wb_tb]
  apply BitVec.eq_of_toNat_eq
  rw [BitVec.toNat_xor, BitVec.toNat_ofNat, BitVec.toNat_ofNat, BitVec.toNat_ofNat, Nat.mod_eq_of_lt (by omega : 2 ^ k + r < 2 ^ 64), Nat.mod_eq_of_lt b2, hx, Nat.add_sub_cancel_left, Nat.mod_eq_of_lt (by omega)]
/-! ===== lN: masks, 'or' of parts that don't overlap is a sum ===== -/
theorem u_tn {n : Nat} (h : n < 2 ^ 64) : (UInt64.ofNat n).toNat = n := Nat.mod_eq_of_lt h
theorem g_and {a b c : Nat} (ha : a < 2 ^ 64) (hb : b < 2 ^ 64) (hc : a &&& b = c) : lN a &&& lN b = lN c := by
  subst hc
  have h : UInt64.ofNat a &&& UInt64.ofNat b = UInt64.ofNat (a &&& b) := UInt64.toNat_inj.mp (by rw [UInt64.toNat_and, u_tn ha, u_tn hb, u_tn (Nat.and_lt_two_pow a hb)])
  have h2 := congrArg UInt64.toInt64 h
  exact h2
theorem g_and1 {a : Nat} (ha : a < 2 ^ 64) : lN a &&& 1 = lN (a % 2) := g_and (b := 1) ha (by decide) (Nat.and_two_pow_sub_one_eq_mod a 1)
theorem g_mask {a s p : Nat} (hp : 2 ^ s = p) (hs : s < 64) (ha : a < 2 ^ 64) : lN a &&& lN (p - 1) = lN (a % p) := by
  subst hp
  have := Nat.pow_lt_pow_right (show 1 < 2 by decide) hs
  exact g_and ha (by omega) (Nat.and_two_pow_sub_one_eq_mod a s)
theorem g_or {k p a b : Nat} (hp : 2 ^ k = p) (ha : a < p) (h : b * p + a < 2 ^ 64) : lN (b * p) ||| lN a = lN (b * p + a) := by
  subst hp
  have h1 : b * 2 ^ k ||| a = b * 2 ^ k + a := by rw [← Nat.shiftLeft_eq, Nat.shiftLeft_add_eq_or_of_lt ha]
  have h3 : UInt64.ofNat (b * 2 ^ k) ||| UInt64.ofNat a = UInt64.ofNat (b * 2 ^ k + a) := UInt64.toNat_inj.mp (by rw [UInt64.toNat_or, u_tn (by omega), u_tn (by omega), u_tn h, h1])
  have h2 := congrArg UInt64.toInt64 h3
  exact h2
theorem g_or' {k p a b : Nat} (hp : 2 ^ k = p) (ha : a < p) (h : a + b * p < 2 ^ 64) : lN a ||| lN (b * p) = lN (a + b * p) := by
  rw [Int64.or_comm, g_or hp ha (by omega), Nat.add_comm]
theorem g_ushr {a k p : Nat} {y : UInt64} (hy : y = UInt64.ofNat k) (hk : k < 64) (hp : 2 ^ k = p) (ha : a < 2 ^ 64) : ((lN a).toUInt64 >>> y).toInt64 = lN (a / p) := by
  subst hy hp
  have h : UInt64.ofNat a >>> UInt64.ofNat k = UInt64.ofNat (a / 2 ^ k) := UInt64.toNat_inj.mp (by rw [UInt64.toNat_shiftRight, u_tn ha, u_tn (by omega), u_tn (Nat.lt_of_le_of_lt (Nat.div_le_self _ _) ha), Nat.mod_eq_of_lt hk, Nat.shiftRight_eq_div_pow])
  have h2 := congrArg UInt64.toInt64 h
  exact h2
theorem g_shl {a k p : Nat} {y : Int64} (hy : y.toBitVec.smod 64 = BitVec.ofNat 64 k) (hk : k < 64) (hp : 2 ^ k = p) (ha : a < 2 ^ 64) : lN a <<< y = lN (a * p) := by
  subst hp
  apply Int64.toBitVec_inj.mp
  rw [Int64.toBitVec_shiftLeft, hy]
  apply BitVec.eq_of_toNat_eq
  have hb : (lN a).toBitVec.toNat = a := Nat.mod_eq_of_lt ha
  have hk' : (BitVec.ofNat 64 k).toNat = k := Nat.mod_eq_of_lt (by omega)
  have h : ((lN a).toBitVec <<< BitVec.ofNat 64 k).toNat = (a * 2 ^ k) % 2 ^ 64 := by simp only [BitVec.shiftLeft_eq', BitVec.toNat_shiftLeft, hb, hk', Nat.shiftLeft_eq]
  exact h
/-! ===== lN to 2^62 under >> and >>> ===== -/
theorem pf_lI {a : Nat} (h : a < 2 ^ 63) : (lN a).toInt = (a : Int) := lg_ofNat_toInt h
theorem pf_shr {a d : Nat} {D : Int64} (hD : (D.toBitVec.smod 64).toNat = d) (h : a < 2 ^ 62) : lN a >>> D = lN (a / 2 ^ d) := by
  have hd : a / 2 ^ d ≤ a := Nat.div_le_self _ _
  apply Int64.toInt_inj.mp
  have e : (lN a >>> D).toInt = (lN a).toInt >>> d := by
    rw [← hD]
    exact BitVec.toInt_sshiftRight ..
  rw [e, Int.shiftRight_eq_div_pow, pf_lI (by omega), pf_lI (by omega)]
  rfl
theorem pf_ushr {a d : Nat} {D : UInt64} (hD : D.toNat % 64 = d) (h : a < 2 ^ 62) : ((lN a).toUInt64 >>> D).toInt64 = lN (a / 2 ^ d) := by
  have hd : a / 2 ^ d ≤ a := Nat.div_le_self _ _
  have e : (lN a).toUInt64 >>> D = UInt64.ofNat (a / 2 ^ d) := UInt64.toNat_inj.mp (by
    rw [UInt64.toNat_shiftRight, hD, Nat.shiftRight_eq_div_pow, UInt64.toNat_ofNat']
    show (UInt64.ofNat a).toNat / 2 ^ d = _
    rw [UInt64.toNat_ofNat', Nat.mod_eq_of_lt (by omega), Nat.mod_eq_of_lt (by omega)])
  rw [e]
  rfl
theorem pf_andw (x : Int64) : ∃ m, m < 2 ^ 32 ∧ x &&& 4294967295 = lN m := ⟨x.toBitVec.toNat % 2 ^ 32, Nat.mod_lt _ (by decide), Int64.toBitVec_inj.mp (BitVec.eq_of_toNat_eq (by
  show (x.toBitVec &&& 4294967295#64).toNat = (BitVec.ofNat 64 (x.toBitVec.toNat % 2 ^ 32)).toNat
  rw [BitVec.toNat_and, show (4294967295#64).toNat = 2 ^ 32 - 1 from by decide, Nat.and_two_pow_sub_one_eq_mod, BitVec.toNat_ofNat]
  omega))⟩
/-! ===== Int64 as an unsigned number: uN x ===== -/
def uN (x : Int64) : Nat := x.toUInt64.toNat
theorem uN_lt (x : Int64) : uN x < 18446744073709551616 := x.toUInt64.toNat_lt
theorem uN_inj {x y : Int64} (h : uN x = uN y) : x = y := congrArg UInt64.toInt64 (UInt64.toNat_inj.mp h)
theorem uN_add (x y : Int64) : uN (x + y) = (uN x + uN y) % 18446744073709551616 := by
  show (x.toUInt64 + y.toUInt64).toNat = _
  exact UInt64.toNat_add _ _
theorem uN_mul (x y : Int64) : uN (x * y) = (uN x * uN y) % 18446744073709551616 := by
  show (x.toUInt64 * y.toUInt64).toNat = _
  exact UInt64.toNat_mul _ _
theorem uN_shl (x : Int64) : uN (x <<< ((1 : Int32).toInt64 &&& 63)) = (2 * uN x) % 18446744073709551616 := by
  have h : (((1 : Int32).toInt64 &&& 63).toBitVec.smod 64).toNat = 1 := by decide
  show (x.toBitVec <<< (((1 : Int32).toInt64 &&& 63).toBitVec.smod 64).toNat).toNat = _
  rw [h, BitVec.toNat_shiftLeft, Nat.shiftLeft_eq, Nat.mul_comm]
  rfl
theorem uN_shr (x : Int64) (s : UInt64) : uN (x.toUInt64 >>> s).toInt64 = uN x / 2 ^ (s.toNat % 64) := by
  show (x.toUInt64 >>> s).toNat = _
  rw [UInt64.toNat_shiftRight, Nat.shiftRight_eq_div_pow]
  rfl
theorem uN_s32 (x : Int64) : uN (x.toUInt64 >>> ((32 : Int32).toInt64.toUInt64 &&& Int64.toUInt64 63)).toInt64 = uN x / 4294967296 := by
  have h : ((32 : Int32).toInt64.toUInt64 &&& Int64.toUInt64 63).toNat % 64 = 32 := by decide
  rw [uN_shr, h]
theorem uN_s63 (x : Int64) : uN (x.toUInt64 >>> ((63 : Int32).toInt64.toUInt64 &&& Int64.toUInt64 63)).toInt64 = uN x / 9223372036854775808 := by
  have h : ((63 : Int32).toInt64.toUInt64 &&& Int64.toUInt64 63).toNat % 64 = 63 := by decide
  rw [uN_shr, h]
theorem uN_lo (x : Int64) : uN (x &&& 4294967295) = uN x % 4294967296 := by
  show (x.toUInt64 &&& Int64.toUInt64 4294967295).toNat = _
  rw [UInt64.toNat_and]
  exact Nat.and_two_pow_sub_one_eq_mod _ 32
theorem uN_bit (x : Int64) : (x &&& 1) = 0 ↔ uN x % 2 = 0 := by
  have h : uN (x &&& 1) = uN x % 2 := by
    show (x.toUInt64 &&& Int64.toUInt64 1).toNat = _
    rw [UInt64.toNat_and]
    exact Nat.and_two_pow_sub_one_eq_mod _ 1
  rw [← h]
  exact ⟨fun z => by rw [z]; rfl, fun z => uN_inj (z.trans rfl)⟩
theorem uN_or {x y : Int64} (hy : uN y < 2) : uN ((x <<< ((1 : Int32).toInt64 &&& 63)) ||| y) = (2 * uN x) % 18446744073709551616 + uN y := by
  have h1 : uN ((x <<< ((1 : Int32).toInt64 &&& 63)) ||| y) = uN (x <<< ((1 : Int32).toInt64 &&& 63)) ||| uN y := UInt64.toNat_or _ _
  have h2 : (2 * uN x) % 18446744073709551616 = 2 ^ 1 * (uN x % 9223372036854775808) := by omega
  rw [h1, uN_shl, h2]
  exact (Nat.two_pow_add_eq_or_of_lt (i := 1) hy _).symm
theorem nat_xor {a : Nat} (h : a < 18446744073709551616) : a ^^^ 2 ^ 63 = (a + 9223372036854775808) % 18446744073709551616 := by
  have h1 : (a ^^^ 2 ^ 63) % 2 ^ 63 = a % 2 ^ 63 := by rw [Nat.xor_mod_two_pow, Nat.mod_self, Nat.xor_zero]
  have h2 : (a ^^^ 2 ^ 63) / 2 ^ 63 = (a / 2 ^ 63) ^^^ 1 := by rw [Nat.xor_div_two_pow, Nat.div_self (Nat.two_pow_pos 63)]
  have h3 : a / 2 ^ 63 = 0 ∨ a / 2 ^ 63 = 1 := by omega
  generalize a ^^^ 2 ^ 63 = t at h1 h2
  rcases h3 with h3 | h3
  · rw [h3] at h2
    have h2 : t / 2 ^ 63 = 1 := h2
    omega
  · rw [h3] at h2
    have h2 : t / 2 ^ 63 = 0 := h2
    omega
theorem uN_xor (x : Int64) : uN (x ^^^ (-9223372036854775808)) = (uN x + 9223372036854775808) % 18446744073709551616 := by
  rw [← nat_xor (uN_lt x)]
  exact UInt64.toNat_xor _ _
theorem uN_int (x : Int64) : x.toInt = if 2 * uN x < 18446744073709551616 then (uN x : Int) else (uN x : Int) - 18446744073709551616 := BitVec.toInt_eq_toNat_cond _
theorem uN_le (x y : Int64) : (x ^^^ (-9223372036854775808)) ≤ (y ^^^ (-9223372036854775808)) ↔ uN x ≤ uN y := by
  have hx := uN_lt x
  have hy := uN_lt y
  rw [Int64.le_iff_toInt_le, uN_int, uN_int, uN_xor, uN_xor]
  omega
theorem uN_sk (x : Int64) {k : Nat} (hk : k < 64) : uN (x.toUInt64 >>> ((nI k).toInt64.toUInt64 &&& Int64.toUInt64 63)).toInt64 = uN x / 2 ^ k := by
  have h : ((nI k).toInt64.toUInt64 &&& Int64.toUInt64 63).toNat % 64 = k := by
    rw [nI_l (by omega), UInt64.toNat_and]
    have e : (lN k).toUInt64.toNat = k % 2 ^ 64 := rfl
    have e2 : (Int64.toUInt64 63).toNat = 2 ^ 6 - 1 := by decide
    rw [e, e2, Nat.and_two_pow_sub_one_eq_mod]
    omega
  rw [uN_shr, h]
/-! ===== unsigned comparison by xor with the least ===== -/
theorem lN_bv (n : Nat) : (lN n).toBitVec = BitVec.ofNat 64 n := rfl
theorem lN_nat {n : Nat} (h : n < 2 ^ 64) : (lN n).toBitVec.toNat = n := by rw [lN_bv, BitVec.toNat_ofNat]; exact Nat.mod_eq_of_lt h
theorem lN_xor (a b : Nat) : lN a ^^^ lN b = lN (a ^^^ b) := by
  apply Int64.toBitVec_inj.mp; rw [Int64.toBitVec_xor, lN_bv, lN_bv, lN_bv]; apply BitVec.eq_of_getLsbD_eq; intro i hi; simp [BitVec.getLsbD_ofNat, Nat.testBit_xor, hi]
theorem lN_ti {m : Nat} (h : m < 2 ^ 64) : (lN m).toInt = if m < 2 ^ 63 then (m : Int) else (m : Int) - 2 ^ 64 := by
  have c := BitVec.toInt_eq_toNat_cond (lN m).toBitVec
  rw [lN_nat h] at c
  show (lN m).toBitVec.toInt = _
  rw [c]
  split <;> split <;> omega
theorem xor63 {x : Nat} (h : x < 2 ^ 63) : x ^^^ 2 ^ 63 = 2 ^ 63 + x := by
  apply Nat.eq_of_testBit_eq
  intro i
  rw [Nat.testBit_xor, Nat.testBit_two_pow]
  rcases Nat.lt_trichotomy i 63 with z | z | z
  · rw [Nat.testBit_two_pow_add_gt z, decide_eq_false (by omega)]; simp
  · subst z; rw [Nat.testBit_two_pow_add_eq]; simp
  · have hp : 2 ^ 64 ≤ 2 ^ i := Nat.pow_le_pow_right (by decide) z
    rw [Nat.testBit_lt_two_pow (show x < 2 ^ i by omega), Nat.testBit_lt_two_pow (show 2 ^ 63 + x < 2 ^ i by omega), decide_eq_false (by omega)]; rfl
theorem xorS {a : Nat} (h : a < 2 ^ 64) : (lN a ^^^ (-9223372036854775808)).toInt = (a : Int) - 2 ^ 63 := by
  rw [show (-9223372036854775808 : Int64) = lN (2 ^ 63) from by decide +kernel, lN_xor]
  rcases Nat.lt_or_ge a (2 ^ 63) with z | z
  · rw [xor63 z, lN_ti (by omega), if_neg (by omega)]; omega
  · obtain ⟨x, rfl⟩ : ∃ x, a = 2 ^ 63 + x := ⟨a - 2 ^ 63, by omega⟩
    rw [← xor63 (by omega), Nat.xor_assoc, Nat.xor_self, Nat.xor_zero, lN_ti (by omega), if_pos (by omega), xor63 (by omega)]; omega
theorem ultL {a b : Nat} (ha : a < 2 ^ 64) (hb : b < 2 ^ 64) : ((lN b ^^^ (-9223372036854775808)) ≤ (lN a ^^^ (-9223372036854775808))) ↔ b ≤ a := by
  rw [Int64.le_iff_toInt_le, xorS ha, xorS hb]; omega
/-! ===== Int64 masks of n low bits ===== -/
theorem cr_bits (W U M : BitVec 64) : ((W &&& U) &&& (U &&& (M ^^^ BitVec.allOnes 64))) = 0#64 ↔ (W &&& U) &&& M = W &&& U := by
  constructor
  · intro h
    apply BitVec.eq_of_getLsbD_eq
    intro i hi
    have e := congrArg (fun x => BitVec.getLsbD x i) h
    simp only [BitVec.getLsbD_and, BitVec.getLsbD_xor, BitVec.getLsbD_allOnes, BitVec.getLsbD_zero, hi, decide_true] at e ⊢
    revert e
    cases W.getLsbD i <;> cases U.getLsbD i <;> cases M.getLsbD i <;> decide
  · intro h
    apply BitVec.eq_of_getLsbD_eq
    intro i hi
    have e := congrArg (fun x => BitVec.getLsbD x i) h
    simp only [BitVec.getLsbD_and, BitVec.getLsbD_xor, BitVec.getLsbD_allOnes, BitVec.getLsbD_zero, hi, decide_true] at e ⊢
    revert e
    cases W.getLsbD i <;> cases U.getLsbD i <;> cases M.getLsbD i <;> decide
theorem cr_mask (w U m : Int64) (n : Nat) (hm : m.toBitVec.toNat = 2 ^ n - 1) : ((w &&& U) &&& (U &&& (m ^^^ (-1)))) = 0 ↔ (w &&& U).toBitVec.toNat < 2 ^ n := by
  have e0 : (-1 : Int64).toBitVec = BitVec.allOnes 64 := by decide
  have z0 : (0 : Int64).toBitVec = 0#64 := by decide
  rw [← Int64.toBitVec_inj, z0, Int64.toBitVec_and, Int64.toBitVec_and, Int64.toBitVec_and, Int64.toBitVec_xor, e0, cr_bits]
  generalize w.toBitVec &&& U.toBitVec = T
  rw [← BitVec.toNat_inj, BitVec.toNat_and, hm, Nat.and_two_pow_sub_one_eq_mod]
  constructor
  · intro h
    have t := Nat.mod_lt T.toNat (Nat.two_pow_pos n)
    rw [h] at t
    exact t
  · exact Nat.mod_eq_of_lt
theorem cr_shr (t : Int64) (x : UInt64) (n : Nat) (hx : x.toNat % 64 = n) : (t.toUInt64 >>> x).toInt64 = 0 ↔ t.toBitVec.toNat < 2 ^ n := by
  rw [← Int64.toBitVec_inj, ← BitVec.toNat_inj]
  show (t.toUInt64 >>> x).toNat = 0 ↔ t.toUInt64.toNat < 2 ^ n
  rw [UInt64.toNat_shiftRight, hx, Nat.shiftRight_eq_div_pow]
  constructor
  · intro h
    have d : t.toUInt64.toNat / 2 ^ n < 1 := by
      rw [h]
      decide
    have e := (Nat.div_lt_iff_lt_mul (Nat.two_pow_pos n)).mp d
    rw [Nat.one_mul] at e
    exact e
  · exact Nat.div_eq_of_lt
theorem cr_amt (s : Int64) : ∃ n, n < 64 ∧ s &&& 63 = lN n ∧ (s.toUInt64 &&& Int64.toUInt64 63).toNat % 64 = n := by
  have e : (s.toUInt64 &&& Int64.toUInt64 63).toNat = s.toUInt64.toNat % 2 ^ 6 := by
    rw [UInt64.toNat_and, show (Int64.toUInt64 63).toNat = 2 ^ 6 - 1 from by decide, Nat.and_two_pow_sub_one_eq_mod]
  refine ⟨s.toUInt64.toNat % 2 ^ 6, by omega, ?_, by omega⟩
  rw [← Int64.toBitVec_inj, ← BitVec.toNat_inj]
  show (s.toUInt64 &&& Int64.toUInt64 63).toNat = (BitVec.ofNat 64 (s.toUInt64.toNat % 2 ^ 6)).toNat
  rw [e, BitVec.toNat_ofNat]
  omega
end
section
/-! links, groups, degrees: the mathematics of the tree with one extra link, no program in sight -/
/-- an unordered pair, the lesser city first -/
def td_nm (x y : Nat) : Nat × Nat := if x < y then (x, y) else (y, x)
/-- the groups after a merge of b's group into a's -/
def td_mg (g : Nat → Nat) (a b : Nat) : Nat → Nat := fun x => if g x = g b then g a else g x
/-- the groups after the links of E were taken, the last first -/
def td_grp : List (Nat × Nat) → Nat → Nat
  | [] => fun x => x
  | e :: E => if e.1 = 0 then td_grp E else td_mg (td_grp E) e.1 e.2
def td_deg : List (Nat × Nat) → Nat → Nat
  | [] => fun _ => 0
  | e :: E => fun x => td_deg E x + (if e.1 = x then 1 else 0) + (if e.2 = x then 1 else 0)
def td_sum (w : Nat → Nat → Int) : List (Nat × Nat) → Int
  | [] => 0
  | e :: E => w e.1 e.2 + td_sum w E
/-- L joins the groups of g on 1 .. n - 1 to one, each link joining two -/
def td_Sp (n : Nat) : List (Nat × Nat) → (Nat → Nat) → Prop
  | [] => fun g => ∀ x y, 1 ≤ x → x < n → 1 ≤ y → y < n → g x = g y
  | e :: L => fun g => g e.1 ≠ g e.2 ∧ td_Sp n L (td_mg g e.1 e.2)

theorem td_mgi (g : Nat → Nat) (a b x y : Nat) : td_mg g a b x = td_mg g a b y ↔ (g x = g y ∨ (g x = g a ∧ g y = g b) ∨ (g x = g b ∧ g y = g a)) := by
  unfold td_mg
  split <;> split <;> omega

theorem td_Sp_congr {n : Nat} : ∀ (L : List (Nat × Nat)) (g g' : Nat → Nat), (∀ x y, g x = g y ↔ g' x = g' y) → td_Sp n L g → td_Sp n L g'
  | [], g, g', h, H => fun x y a b c d => (h x y).mp (H x y a b c d)
  | e :: L, g, g', h, H => ⟨fun q => H.1 ((h _ _).mpr q), td_Sp_congr L _ _ (fun x y => by simp only [td_mgi, h]) H.2⟩

theorem td_comm (p q A B C D : Nat) (v : Nat → Nat → Nat → Nat) (hv : ∀ k l x, v k l x = if x = l then k else x) :
    (v (v C D A) (v C D B) (v C D p) = v (v C D A) (v C D B) (v C D q)) ↔ (v (v A B C) (v A B D) (v A B p) = v (v A B C) (v A B D) (v A B q)) := by
  simp only [hv]
  grind

theorem td_mgcomm (g : Nat → Nat) (a b c d x y : Nat) : td_mg (td_mg g c d) a b x = td_mg (td_mg g c d) a b y ↔ td_mg (td_mg g a b) c d x = td_mg (td_mg g a b) c d y := by
  have h := td_comm (g x) (g y) (g a) (g b) (g c) (g d) (fun k l x => if x = l then k else x) (fun _ _ _ => rfl)
  exact h

theorem td_SpA {n a b : Nat} : ∀ (L : List (Nat × Nat)) (g : Nat → Nat), td_Sp n L g → (a, b) ∈ L → g a ≠ g b ∧ td_Sp n (L.erase (a, b)) (td_mg g a b)
  | [], _, _, h => absurd h (by simp)
  | (c, d) :: L, g, H, h => by
    by_cases q : (c, d) = (a, b)
    · rw [q, List.erase_cons_head]
      cases q
      exact H
    · have hm : (a, b) ∈ L := by
        rcases List.mem_cons.mp h with h | h
        · exact absurd h.symm q
        · exact h
      obtain ⟨h1, h2⟩ := td_SpA L _ H.2 hm
      rw [List.erase_cons_tail (by simpa using q)]
      have h0 : g c ≠ g d := H.1
      rw [ne_eq, td_mgi] at h1
      refine ⟨fun z => h1 (Or.inl z), ?_, td_Sp_congr _ _ _ (fun x y => td_mgcomm g a b c d x y) h2⟩
      show td_mg g a b c ≠ td_mg g a b d
      rw [ne_eq, td_mgi]
      dsimp only at h1
      omega

theorem td_SpB {n a b : Nat} (ha : 1 ≤ a) (ha' : a < n) (hb : 1 ≤ b) (hb' : b < n) : ∀ (L : List (Nat × Nat)) (g : Nat → Nat), td_Sp n L g → g a ≠ g b → ∃ e, e ∈ L ∧ g e.1 ≠ g e.2 ∧ td_Sp n (L.erase e) (td_mg g a b)
  | [], g, H, h => absurd (H a b ha ha' hb hb') h
  | (c, d) :: L, g, H, h => by
    have h0 : g c ≠ g d := H.1
    by_cases q : td_mg g c d a = td_mg g c d b
    · refine ⟨(c, d), List.mem_cons_self, h0, ?_⟩
      rw [List.erase_cons_head]
      refine td_Sp_congr L _ _ ?_ H.2
      intro x y
      rw [td_mgi] at q
      rw [td_mgi, td_mgi]
      dsimp only
      omega
    · obtain ⟨e, he, hn, hs⟩ := td_SpB ha ha' hb hb' L _ H.2 q
      dsimp only at hn
      rw [ne_eq, td_mgi] at hn
      have z : (c, d) ≠ e := by
        intro z
        rw [← z] at hn
        exact hn (Or.inr (Or.inl ⟨rfl, rfl⟩))
      refine ⟨e, List.mem_cons_of_mem _ he, fun z => hn (Or.inl z), ?_⟩
      rw [List.erase_cons_tail (by simpa using z)]
      rw [td_mgi] at q
      refine ⟨?_, td_Sp_congr _ _ _ (fun x y => td_mgcomm g a b c d x y) hs⟩
      show td_mg g a b c ≠ td_mg g a b d
      rw [ne_eq, td_mgi]
      omega

theorem td_sum_perm {w : Nat → Nat → Int} {L M : List (Nat × Nat)} (h : L.Perm M) : td_sum w L = td_sum w M := by
  induction h with
  | nil => rfl
  | cons x _ ih => simp only [td_sum, ih]
  | swap x y l => simp only [td_sum]; omega
  | trans _ _ a b => exact a.trans b

theorem td_deg_perm {L M : List (Nat × Nat)} (h : L.Perm M) (v : Nat) : td_deg L v = td_deg M v := by
  induction h with
  | nil => rfl
  | cons x _ ih => simp only [td_deg, ih]
  | swap x y l => simp only [td_deg]; omega
  | trans _ _ a b => exact a.trans b

theorem td_sum_app (w : Nat → Nat → Int) : ∀ (L M : List (Nat × Nat)), td_sum w (L ++ M) = td_sum w L + td_sum w M
  | [], M => by simp [td_sum]
  | e :: L, M => by
    show w e.1 e.2 + td_sum w (L ++ M) = w e.1 e.2 + td_sum w L + td_sum w M
    rw [td_sum_app w L M]; omega

theorem td_deg_app (v : Nat) : ∀ (L M : List (Nat × Nat)), td_deg (L ++ M) v = td_deg L v + td_deg M v
  | [], M => by simp [td_deg]
  | e :: L, M => by
    show td_deg (L ++ M) v + _ + _ = td_deg L v + _ + _ + td_deg M v
    rw [td_deg_app v L M]; omega

theorem td_sum_mono {w w' : Nat → Nat → Int} : ∀ (L : List (Nat × Nat)), (∀ e, e ∈ L → w e.1 e.2 ≤ w' e.1 e.2) → td_sum w L ≤ td_sum w' L
  | [], _ => Int.le_refl _
  | e :: L, h => Int.add_le_add (h e List.mem_cons_self) (td_sum_mono L (fun f hf => h f (List.mem_cons_of_mem _ hf)))

theorem td_sum_congr {w w' : Nat → Nat → Int} : ∀ (L : List (Nat × Nat)), (∀ e, e ∈ L → w e.1 e.2 = w' e.1 e.2) → td_sum w L = td_sum w' L
  | [], _ => rfl
  | e :: L, h => by
    show w e.1 e.2 + td_sum w L = w' e.1 e.2 + td_sum w' L
    rw [h e List.mem_cons_self, td_sum_congr L (fun f hf => h f (List.mem_cons_of_mem _ hf))]

theorem td_compl : ∀ (E T : List (Nat × Nat)), E.Nodup → (∀ e, e ∈ E → e ∈ T) → ∃ R, (E ++ R).Perm T
  | [], T, _, _ => ⟨T, List.Perm.refl _⟩
  | e :: E, T, hn, hs => by
    have h1 := List.nodup_cons.mp hn
    have h2 := List.perm_cons_erase (hs e List.mem_cons_self)
    obtain ⟨R, hR⟩ := td_compl E (T.erase e) h1.2 (fun f hf => (List.mem_erase_of_ne (a := f) (b := e) (fun z => h1.1 (by rw [← z]; exact hf))).mpr (hs f (List.mem_cons_of_mem _ hf)))
    exact ⟨R, (List.Perm.cons e hR).trans h2.symm⟩

/-- sums over the cities below n -/
def td_S (f : Nat → Int) : Nat → Int
  | 0 => 0
  | n + 1 => td_S f n + f n

theorem td_S_congr {f g : Nat → Int} : ∀ n, (∀ x, x < n → f x = g x) → td_S f n = td_S g n
  | 0, _ => rfl
  | n + 1, h => by
    show td_S f n + f n = td_S g n + g n
    rw [td_S_congr n (fun x hx => h x (by omega)), h n (by omega)]

theorem td_S_add (f g : Nat → Int) : ∀ n, td_S (fun x => f x + g x) n = td_S f n + td_S g n
  | 0 => rfl
  | n + 1 => by
    show td_S (fun x => f x + g x) n + (f n + g n) = td_S f n + f n + (td_S g n + g n)
    rw [td_S_add f g n]; omega

theorem td_S_two (f : Nat → Int) : ∀ n, td_S (fun x => 2 * f x) n = 2 * td_S f n
  | 0 => rfl
  | n + 1 => by
    show td_S (fun x => 2 * f x) n + 2 * f n = 2 * (td_S f n + f n)
    rw [td_S_two f n]; omega

theorem td_S_one (P : Nat → Int) (a : Nat) : ∀ n, td_S (fun x => if a = x then P x else 0) n = if a < n then P a else 0
  | 0 => by simp [td_S]
  | n + 1 => by
    show td_S (fun x => if a = x then P x else 0) n + (if a = n then P n else 0) = _
    rw [td_S_one P a n]
    by_cases h : a = n
    · subst h; simp
    · rw [if_neg h]
      by_cases h' : a < n
      · rw [if_pos h', if_pos (by omega)]; omega
      · rw [if_neg h', if_neg (by omega)]; rfl

theorem td_S_deg (l : Nat → Nat → Int) (P : Nat → Int) (n : Nat) : ∀ (E : List (Nat × Nat)), (∀ e, e ∈ E → e.1 < n ∧ e.2 < n) →
    td_sum (fun a b => l a b + P a + P b) E = td_sum l E + td_S (fun x => (td_deg E x : Int) * P x) n
  | [], _ => by
    have h : td_S (fun x => (td_deg [] x : Int) * P x) n = td_S (fun x => if n = x then P x else 0) n :=
      td_S_congr n (fun x hx => by
        show ((0 : Nat) : Int) * P x = _
        rw [if_neg (by omega)]; simp)
    rw [h, td_S_one, if_neg (by omega)]; rfl
  | e :: E, h => by
    have ih := td_S_deg l P n E (fun f hf => h f (List.mem_cons_of_mem _ hf))
    have he := h e List.mem_cons_self
    have h2 : td_S (fun x => (td_deg (e :: E) x : Int) * P x) n = td_S (fun x => (td_deg E x : Int) * P x + ((if e.1 = x then P x else 0) + (if e.2 = x then P x else 0))) n :=
      td_S_congr n (fun x hx => by
        show ((td_deg E x + (if e.1 = x then 1 else 0) + (if e.2 = x then 1 else 0) : Nat) : Int) * P x = _
        by_cases h1 : e.1 = x <;> by_cases h2 : e.2 = x <;> simp only [h1, h2, if_true, if_false] <;> grind)
    rw [h2, td_S_add, td_S_add, td_S_one, td_S_one, if_pos he.1, if_pos he.2]
    show l e.1 e.2 + P e.1 + P e.2 + td_sum (fun a b => l a b + P a + P b) E = l e.1 e.2 + td_sum l E + _
    rw [ih]; omega

theorem td_sum_const (c : Int) : ∀ (E : List (Nat × Nat)), td_sum (fun _ _ => c) E = c * E.length
  | [] => by simp [td_sum]
  | e :: E => by
    show c + td_sum (fun _ _ => c) E = _
    rw [td_sum_const c E, List.length_cons]; grind

/-- the degrees add up to twice the number of links -/
theorem td_hand (n : Nat) (E : List (Nat × Nat)) (h : ∀ e, e ∈ E → e.1 < n ∧ e.2 < n) : td_S (fun x => (td_deg E x : Int)) n = 2 * E.length := by
  have h1 := td_S_deg (fun _ _ => 0) (fun _ => 1) n E h
  rw [td_sum_const 0, td_S_congr (g := fun x => (td_deg E x : Int)) n (fun x _ => by simp)] at h1
  have h2 : td_sum (fun a b => (0 : Int) + 1 + 1) E = 2 * E.length := td_sum_const 2 E
  omega
theorem td_S_le2 {f : Nat → Int} : ∀ n, (∀ x, x < n → f x ≤ 2) → td_S f n ≤ 2 * n
  | 0, _ => by simp [td_S]
  | n + 1, h => by
    have h1 := td_S_le2 n (fun x hx => h x (by omega))
    have h2 := h n (by omega)
    show td_S f n + f n ≤ _
    omega
theorem td_S_eq2 {f : Nat → Int} : ∀ n, (∀ x, x < n → f x ≤ 2) → 2 * (n : Int) ≤ td_S f n → ∀ x, x < n → f x = 2
  | 0, _, _, x, hx => by omega
  | n + 1, h, hs, x, hx => by
    have h1 := td_S_le2 n (fun x hx => h x (by omega))
    have h2 := h n (by omega)
    have h3 : td_S f n + f n = td_S f (n + 1) := rfl
    by_cases q : x = n
    · subst q; omega
    · exact td_S_eq2 n (fun x hx => h x (by omega)) (by omega) x (by omega)
end
section
/-! tours: the list of the cities behind city 0 -/
def td_pe : List Nat → List (Nat × Nat)
  | [] => []
  | [_] => []
  | x :: y :: l => td_nm x y :: td_pe (y :: l)
/-- the links of the tour 0, p, 0 -/
def td_T (p : List Nat) : List (Nat × Nat) := td_pe (0 :: (p ++ [0]))
def td_P (n : Nat) (p : List Nat) : Prop := p.length + 1 = n ∧ p.Nodup ∧ ∀ x, x ∈ p → 1 ≤ x ∧ x < n

theorem td_nm_comm (x y : Nat) : td_nm x y = td_nm y x := by
  unfold td_nm
  by_cases h : x < y
  · rw [if_pos h, if_neg (by omega)]
  · by_cases h' : y < x
    · rw [if_neg h, if_pos h']
    · have : x = y := by omega
      subst this; rfl
theorem td_nm_lt {x y : Nat} (h : x < y) : td_nm x y = (x, y) := if_pos h
theorem td_nm_or (x y : Nat) : td_nm x y = (x, y) ∨ td_nm x y = (y, x) := by
  unfold td_nm; split
  · exact Or.inl rfl
  · exact Or.inr rfl
theorem td_nm_inc {x y : Nat} (h : x ≠ y) : (td_nm x y).1 < (td_nm x y).2 := by
  unfold td_nm; split
  · assumption
  · show y < x; omega
theorem td_nm_inj {x y z : Nat} (h : td_nm x y = td_nm x z) : y = z := by
  rcases td_nm_or x y with a | a <;> rcases td_nm_or x z with b | b <;> rw [a, b] at h <;> simp only [Prod.mk.injEq] at h <;> omega
theorem td_nm_deg (x y v : Nat) : (if (td_nm x y).1 = v then 1 else 0) + (if (td_nm x y).2 = v then 1 else 0) = (if x = v then 1 else 0) + (if y = v then 1 else 0) := by
  rcases td_nm_or x y with a | a <;> rw [a]
  exact Nat.add_comm _ _
theorem td_nm_of {e : Nat × Nat} (h : e.1 < e.2) : td_nm e.1 e.2 = e := td_nm_lt h

theorem td_pe_mem : ∀ (l : List Nat) (e : Nat × Nat), e ∈ td_pe l → e.1 ∈ l ∧ e.2 ∈ l
  | [], e, h => absurd h (by simp [td_pe])
  | [x], e, h => absurd h (by simp [td_pe])
  | x :: y :: l, e, h => by
    rcases List.mem_cons.mp (show e ∈ td_nm x y :: td_pe (y :: l) from h) with h | h
    · rcases td_nm_or x y with a | a <;> rw [h, a] <;> simp
    · have := td_pe_mem (y :: l) e h
      exact ⟨List.mem_cons_of_mem _ this.1, List.mem_cons_of_mem _ this.2⟩

theorem td_pe_snoc (y z : Nat) : ∀ (l : List Nat), td_pe (l ++ [y] ++ [z]) = td_pe (l ++ [y]) ++ [td_nm y z]
  | [] => rfl
  | [x] => rfl
  | x :: x' :: l => by
    show td_nm x x' :: td_pe ((x' :: l) ++ [y] ++ [z]) = td_nm x x' :: (td_pe ((x' :: l) ++ [y]) ++ [td_nm y z])
    rw [td_pe_snoc y z (x' :: l)]

theorem td_pe_app (y : Nat) : ∀ (l m : List Nat), td_pe (l ++ y :: m) = td_pe (l ++ [y]) ++ td_pe (y :: m)
  | [], m => rfl
  | [x], m => rfl
  | x :: x' :: l, m => by
    show td_nm x x' :: td_pe ((x' :: l) ++ y :: m) = td_nm x x' :: (td_pe ((x' :: l) ++ [y]) ++ td_pe (y :: m))
    rw [td_pe_app y (x' :: l) m]

theorem td_pe_len : ∀ (x : Nat) (l : List Nat), (td_pe (x :: l)).length = l.length
  | _, [] => rfl
  | x, y :: l => by
    show (td_pe (y :: l)).length + 1 = l.length + 1
    rw [td_pe_len y l]

theorem td_pe_nodup : ∀ (l : List Nat), l.Nodup → (td_pe l).Nodup
  | [], _ => List.nodup_nil
  | [_], _ => List.nodup_nil
  | x :: y :: l, h => by
    have h1 := List.nodup_cons.mp h
    refine List.nodup_cons.mpr ⟨fun q => ?_, td_pe_nodup (y :: l) h1.2⟩
    have h2 := td_pe_mem _ _ q
    rcases td_nm_or x y with a | a <;> rw [a] at h2
    · exact h1.1 h2.1
    · exact h1.1 h2.2

theorem td_pe_inc : ∀ (l : List Nat), l.Nodup → ∀ e, e ∈ td_pe l → e.1 < e.2
  | [], _, e, h => absurd h (by simp [td_pe])
  | [_], _, e, h => absurd h (by simp [td_pe])
  | x :: y :: l, hn, e, h => by
    have h1 := List.nodup_cons.mp hn
    rcases List.mem_cons.mp (show e ∈ td_nm x y :: td_pe (y :: l) from h) with h | h
    · rw [h]
      exact td_nm_inc (fun z => h1.1 (by rw [z]; exact List.mem_cons_self))
    · exact td_pe_inc (y :: l) h1.2 e h

theorem td_pe_deg (z v : Nat) : ∀ (l : List Nat) (x : Nat), td_deg (td_pe (x :: (l ++ [z]))) v + (if x = v then 1 else 0) + (if z = v then 1 else 0) = 2 * (x :: (l ++ [z])).count v
  | [], x => by
    show 0 + (if (td_nm x z).1 = v then 1 else 0) + (if (td_nm x z).2 = v then 1 else 0) + _ + _ = 2 * [x, z].count v
    have h := td_nm_deg x z v
    simp only [List.count_cons, List.count_nil, beq_iff_eq]
    omega
  | y :: l, x => by
    have ih := td_pe_deg z v l y
    have h := td_nm_deg x y v
    show td_deg (td_pe (y :: (l ++ [z]))) v + (if (td_nm x y).1 = v then 1 else 0) + (if (td_nm x y).2 = v then 1 else 0) + _ + _ = 2 * (x :: (y :: (l ++ [z]))).count v
    rw [List.count_cons (a := v) (b := x)]
    simp only [beq_iff_eq]
    omega

theorem td_P_all {n : Nat} {p : List Nat} (h : td_P n p) : ∀ v, 1 ≤ v → v < n → v ∈ p := by
  intro v h1 h2
  have h0 : (0 :: p).Nodup := List.nodup_cons.mpr ⟨fun q => by have := (h.2.2 0 q).1; omega, h.2.1⟩
  have h3 := covers_all n (0 :: p) h0 (fun x hx => by
    rcases List.mem_cons.mp hx with hx | hx
    · have := h.1; omega
    · exact (h.2.2 x hx).2) (by rw [List.length_cons]; exact h.1) v h2
  rcases List.mem_cons.mp h3 with h3 | h3
  · omega
  · exact h3

theorem td_T_deg {n : Nat} {p : List Nat} (h : td_P n p) (v : Nat) (hv : v < n) : td_deg (td_T p) v = 2 := by
  have h1 := td_pe_deg 0 v p 0
  have h2 : td_deg (td_T p) v = td_deg (td_pe (0 :: (p ++ [0]))) v := rfl
  have h3 : (0 :: (p ++ [0])).count v = p.count v + (if 0 = v then 1 else 0) + (if 0 = v then 1 else 0) := by
    rw [List.count_cons, List.count_append, List.count_cons, List.count_nil]
    simp only [beq_iff_eq]
    omega
  have h4 := h.2.1.count (a := v)
  by_cases q : v = 0
  · subst q
    rw [if_neg (fun z => by have := (h.2.2 0 z).1; omega)] at h4
    simp only [if_true] at h1 h3
    omega
  · rw [if_pos (td_P_all h v (by omega) hv)] at h4
    rw [if_neg (by omega)] at h1 h3
    omega

/-- the two links at city 0 and the way between -/
theorem td_T_split {n : Nat} {p : List Nat} (hn : 3 ≤ n) (h : td_P n p) : ∃ a z, a ∈ p ∧ z ∈ p ∧ a ≠ z ∧ (td_T p).Perm (td_pe p ++ [(0, a), (0, z)]) ∧ (∃ q, p = a :: q) ∧ (∃ q, p = q ++ [z]) := by
  obtain ⟨h1, h2, h3⟩ := h
  match p, h1, h2, h3 with
  | [], h1, _, _ => simp at h1; omega
  | [a], h1, _, _ => simp at h1; omega
  | a :: b :: q, h1, h2, h3 =>
    have hl : ∃ m z, b :: q = m ++ [z] := ⟨(b :: q).dropLast, (b :: q).getLast (by simp), (List.dropLast_concat_getLast (by simp)).symm⟩
    obtain ⟨m, z, hz⟩ := hl
    have hzm : z ∈ b :: q := by rw [hz]; simp
    have h4 : a ≠ z := fun e => (List.nodup_cons.mp h2).1 (by rw [e]; exact hzm)
    have ha := h3 a List.mem_cons_self
    have hz' := h3 z (List.mem_cons_of_mem _ hzm)
    refine ⟨a, z, List.mem_cons_self, List.mem_cons_of_mem _ hzm, h4, ?_, ⟨_, rfl⟩, ⟨a :: m, by rw [hz]; rfl⟩⟩
    have e1 : td_T (a :: b :: q) = (0, a) :: (td_pe (a :: b :: q) ++ [(0, z)]) := by
      show td_nm 0 a :: td_pe ((a :: (b :: q)) ++ [0]) = _
      rw [hz]
      show td_nm 0 a :: td_pe (((a :: m) ++ [z]) ++ [0]) = _
      rw [td_pe_snoc, td_nm_lt ha.1, td_nm_comm, td_nm_lt hz'.1]
      rfl
    rw [e1]
    refine (List.Perm.trans ?_ List.perm_middle.symm)
    exact List.Perm.refl _

theorem td_T_nodup {n : Nat} {p : List Nat} (hn : 3 ≤ n) (h : td_P n p) : (td_T p).Nodup := by
  obtain ⟨a, z, ha, hz, hne, hp, _⟩ := td_T_split hn h
  refine hp.symm.nodup ?_
  have h0 : ∀ c, (0, c) ∉ td_pe p := fun c q => by
    have := (td_pe_mem p _ q).1
    have := (h.2.2 _ this).1
    dsimp only at this
    omega
  refine List.nodup_append.mpr ⟨td_pe_nodup p h.2.1, ?_, ?_⟩
  · simp [hne]
  · intro e he f hf q
    rw [q] at he
    simp only [List.mem_cons, List.not_mem_nil, or_false] at hf
    rcases hf with hf | hf <;> rw [hf] at he <;> exact h0 _ he

theorem td_T_mem {n : Nat} {p : List Nat} (hn : 3 ≤ n) (h : td_P n p) {e : Nat × Nat} (he : e ∈ td_T p) : e.1 < e.2 ∧ e.2 < n := by
  obtain ⟨a, z, ha, hz, hne, hp, _⟩ := td_T_split hn h
  have he := hp.mem_iff.mp he
  rw [List.mem_append] at he
  rcases he with he | he
  · exact ⟨td_pe_inc p h.2.1 e he, (h.2.2 _ (td_pe_mem p e he).2).2⟩
  · simp only [List.mem_cons, List.not_mem_nil, or_false] at he
    have ha := h.2.2 a ha
    have hz := h.2.2 z hz
    rcases he with he | he <;> rw [he] <;> exact ⟨by dsimp only; omega, by dsimp only; omega⟩

theorem td_T_len {n : Nat} {p : List Nat} (h : td_P n p) : (td_T p).length = n := by
  show (td_pe (0 :: (p ++ [0]))).length = n
  rw [td_pe_len, List.length_append]
  exact h.1

theorem td_SpPath {n : Nat} : ∀ (l : List Nat) (x : Nat) (g : Nat → Nat), (x :: l).Nodup → (∀ y, y ∈ l → ∀ z, g z = g y → z = y) → (∀ z, 1 ≤ z → z < n → z ∈ l ∨ g z = g x) → td_Sp n (td_pe (x :: l)) g
  | [], x, g, _, _, h => fun a b a1 a2 b1 b2 => by
    rcases h a a1 a2 with q | q
    · exact absurd q (by simp)
    · rcases h b b1 b2 with r | r
      · exact absurd r (by simp)
      · exact q.trans r.symm
  | y :: l, x, g, hn, hs, h => by
    have h1 := List.nodup_cons.mp hn
    have h2 := List.nodup_cons.mp h1.2
    have hxy : x ≠ y := fun z => h1.1 (by rw [z]; exact List.mem_cons_self)
    have key : ∀ u v, td_mg g (td_nm x y).1 (td_nm x y).2 u = td_mg g (td_nm x y).1 (td_nm x y).2 v ↔ (g u = g v ∨ (g u = g x ∧ g v = g y) ∨ (g u = g y ∧ g v = g x)) := by
      intro u v
      rw [td_mgi]
      rcases td_nm_or x y with a | a <;> rw [a] <;> dsimp only <;> omega
    have hg : g x ≠ g y := fun z => hxy (hs y List.mem_cons_self x z)
    refine ⟨?_, td_SpPath l y _ h1.2 ?_ ?_⟩
    · rcases td_nm_or x y with a | a <;> rw [a] <;> dsimp only <;> omega
    · intro w hw z hz
      rw [key] at hz
      rcases hz with q | q | q
      · exact hs w (List.mem_cons_of_mem _ hw) z q
      · exact absurd (hs y List.mem_cons_self w q.2) (fun r => h2.1 (r ▸ hw))
      · exact absurd (hs w (List.mem_cons_of_mem _ hw) x q.2.symm) (fun r => h1.1 (List.mem_cons_of_mem _ (r ▸ hw)))
    · intro z z1 z2
      rcases h z z1 z2 with q | q
      · rcases List.mem_cons.mp q with q | q
        · right; rw [q]
        · exact Or.inl q
      · right; rw [key]; exact Or.inr (Or.inl ⟨q, rfl⟩)

/-- what a tour still has when links of its own were taken -/
theorem td_rest {n : Nat} {p : List Nat} (hn : 3 ≤ n) (h : td_P n p) : ∀ (E : List (Nat × Nat)), E.Nodup → (∀ e, e ∈ E → e ∈ td_T p) →
    ∃ L Z, td_Sp n L (td_grp E) ∧ (E ++ (L ++ Z)).Perm (td_T p) ∧ (∀ e, e ∈ L → e.1 ≠ 0) ∧ (∀ e, e ∈ Z → e.1 = 0)
  | [], _, _ => by
    obtain ⟨a, z, ha, hz, hne, hp, ⟨q, hq⟩, _⟩ := td_T_split hn h
    refine ⟨td_pe p, [(0, a), (0, z)], ?_, hp.symm, ?_, ?_⟩
    · rw [hq]
      refine td_SpPath q a _ (hq ▸ h.2.1) (fun y _ z hz => hz) ?_
      intro z z1 z2
      have := td_P_all h z z1 z2
      rw [hq] at this
      rcases List.mem_cons.mp this with r | r
      · right; rw [r]
      · exact Or.inl r
    · intro e he
      have := (h.2.2 _ (td_pe_mem p e he).1).1
      omega
    · intro e he
      simp only [List.mem_cons, List.not_mem_nil, or_false] at he
      rcases he with he | he <;> rw [he]
  | e :: E, hnd, hs => by
    have h1 := List.nodup_cons.mp hnd
    obtain ⟨L, Z, hSp, hP, hL, hZ⟩ := td_rest hn h E h1.2 (fun f hf => hs f (List.mem_cons_of_mem _ hf))
    have hm := hP.mem_iff.mpr (hs e List.mem_cons_self)
    rw [List.mem_append, List.mem_append] at hm
    rcases hm with hm | hm | hm
    · exact absurd hm h1.1
    · have hA := td_SpA (a := e.1) (b := e.2) L _ hSp hm
      refine ⟨L.erase e, Z, ?_, ?_, fun f hf => hL f (List.mem_of_mem_erase hf), hZ⟩
      · show td_Sp n (L.erase e) (if e.1 = 0 then _ else _)
        rw [if_neg (hL e hm)]
        exact hA.2
      · refine List.Perm.trans ?_ hP
        refine List.Perm.trans List.perm_middle.symm ?_
        exact List.Perm.append_left E (List.Perm.append_right Z (List.perm_cons_erase hm).symm)
    · refine ⟨L, Z.erase e, ?_, ?_, hL, fun f hf => hZ f (List.mem_of_mem_erase hf)⟩
      · show td_Sp n L (if e.1 = 0 then _ else _)
        rw [if_pos (hZ e hm)]
        exact hSp
      · refine List.Perm.trans ?_ hP
        refine List.Perm.trans List.perm_middle.symm ?_
        refine List.Perm.append_left E ?_
        refine List.Perm.trans List.perm_middle.symm ?_
        exact List.Perm.append_left L (List.perm_cons_erase hm).symm

/-- a link of the tour that wasn't taken can be taken -/
theorem td_can {n : Nat} {p : List Nat} (hn : 3 ≤ n) (h : td_P n p) {E : List (Nat × Nat)} (hE : E.Nodup) (hs : ∀ e, e ∈ E → e ∈ td_T p) {a b : Nat} (he : (a, b) ∈ td_T p) (hne : (a, b) ∉ E) :
    td_deg E a < 2 ∧ td_deg E b < 2 ∧ (a ≠ 0 → td_grp E a ≠ td_grp E b) := by
  have hm := td_T_mem hn h he
  dsimp only at hm
  obtain ⟨R, hR⟩ := td_compl ((a, b) :: E) (td_T p) (List.nodup_cons.mpr ⟨hne, hE⟩) (fun e q => by
    rcases List.mem_cons.mp q with q | q
    · rw [q]; exact he
    · exact hs e q)
  have d1 := td_deg_perm hR a
  have d2 := td_deg_perm hR b
  rw [td_deg_app, td_T_deg h _ (by omega)] at d1 d2
  have e1 : td_deg ((a, b) :: E) a = td_deg E a + (if a = a then 1 else 0) + (if b = a then 1 else 0) := rfl
  have e2 : td_deg ((a, b) :: E) b = td_deg E b + (if a = b then 1 else 0) + (if b = b then 1 else 0) := rfl
  rw [if_pos rfl] at e1 e2
  refine ⟨by omega, by omega, fun ha => ?_⟩
  obtain ⟨L, Z, hSp, hP, hL, hZ⟩ := td_rest hn h E hE hs
  have hm := hP.mem_iff.mpr he
  rw [List.mem_append, List.mem_append] at hm
  rcases hm with hm | hm | hm
  · exact absurd hm hne
  · exact (td_SpA L _ hSp hm).1
  · exact absurd (hZ _ hm) ha

/-- a step of the growing tree: the cheapest joining link in place of one of L -/
theorem td_grow {n a b : Nat} {w : Nat → Nat → Int} {E L : List (Nat × Nat)} {F : Nat × Nat → Prop} (hSp : td_Sp n L (td_grp E)) (hL : ∀ e, e ∈ L → F e)
    (ha : 1 ≤ a) (ha' : a < n) (hb : 1 ≤ b) (hb' : b < n) (hg : td_grp E a ≠ td_grp E b) (hm : ∀ e, F e → td_grp E e.1 ≠ td_grp E e.2 → w a b ≤ w e.1 e.2) :
    ∃ L', td_Sp n L' (td_grp ((a, b) :: E)) ∧ (∀ e, e ∈ L' → e ∈ L) ∧ L'.length + 1 = L.length ∧ w a b + td_sum w L' ≤ td_sum w L := by
  obtain ⟨e, he, hge, hSp'⟩ := td_SpB ha ha' hb hb' L _ hSp hg
  refine ⟨L.erase e, ?_, fun f hf => List.mem_of_mem_erase hf, ?_, ?_⟩
  · show td_Sp n (L.erase e) (if a = 0 then _ else _)
    rw [if_neg (by omega)]
    exact hSp'
  · rw [List.length_erase_of_mem he]
    have := List.length_pos_of_mem he
    omega
  · have h1 := td_sum_perm (w := w) (List.perm_cons_erase he)
    have h2 : td_sum w (e :: L.erase e) = w e.1 e.2 + td_sum w (L.erase e) := rfl
    have h3 := hm e (hL e he) hge
    omega

/-- a step at city 0 -/
theorem td_close {b : Nat} {w : Nat → Nat → Int} {Z : List (Nat × Nat)} (hZ : Z.Nodup) (h0 : Z ≠ []) (hm : ∀ e, e ∈ Z → w 0 b ≤ w e.1 e.2) :
    ∃ Z', Z'.Nodup ∧ (∀ e, e ∈ Z' → e ∈ Z ∧ e ≠ (0, b)) ∧ Z'.length + 1 = Z.length ∧ w 0 b + td_sum w Z' ≤ td_sum w Z := by
  by_cases hb : (0, b) ∈ Z
  · refine ⟨Z.erase (0, b), hZ.erase _, fun e he => ⟨List.mem_of_mem_erase he, fun q => ?_⟩, ?_, ?_⟩
    · rw [q] at he
      exact hZ.not_mem_erase he
    · rw [List.length_erase_of_mem hb]
      have := List.length_pos_of_mem hb
      omega
    · have h1 := td_sum_perm (w := w) (List.perm_cons_erase hb)
      have h2 : td_sum w ((0, b) :: Z.erase (0, b)) = w 0 b + td_sum w (Z.erase (0, b)) := rfl
      omega
  · match Z, hZ, h0, hm, hb with
    | [], _, h0, _, _ => exact absurd rfl h0
    | e :: Z, hZ, _, hm, hb =>
      refine ⟨Z, (List.nodup_cons.mp hZ).2, fun f hf => ⟨List.mem_cons_of_mem _ hf, fun q => hb (by rw [← q]; exact List.mem_cons_of_mem _ hf)⟩, rfl, ?_⟩
      have h1 := hm e List.mem_cons_self
      have h2 : td_sum w (e :: Z) = w e.1 e.2 + td_sum w Z := rfl
      omega

/-- what is closed under the taken links is a union of groups -/
theorem td_closed (S : Nat → Prop) : ∀ (E : List (Nat × Nat)), (∀ e, e ∈ E → e.1 ≠ 0 → (S e.1 ↔ S e.2)) → ∀ x y, td_grp E x = td_grp E y → (S x ↔ S y)
  | [], _, x, y, h => by
    have : x = y := h
    rw [this]
  | e :: E, hS, x, y, h => by
    have ih := td_closed S E (fun f hf => hS f (List.mem_cons_of_mem _ hf))
    by_cases q : e.1 = 0
    · have h' : td_grp E x = td_grp E y := by
        have h2 : (if e.1 = 0 then td_grp E else td_mg (td_grp E) e.1 e.2) x = (if e.1 = 0 then td_grp E else td_mg (td_grp E) e.1 e.2) y := h
        rw [if_pos q] at h2
        exact h2
      exact ih x y h'
    · have h2 : (if e.1 = 0 then td_grp E else td_mg (td_grp E) e.1 e.2) x = (if e.1 = 0 then td_grp E else td_mg (td_grp E) e.1 e.2) y := h
      rw [if_neg q, td_mgi] at h2
      have h3 := hS e List.mem_cons_self q
      rcases h2 with r | r | r
      · exact ih x y r
      · exact (ih x e.1 r.1).trans (h3.trans (ih y e.2 r.2).symm)
      · exact (ih x e.2 r.1).trans (h3.symm.trans (ih y e.1 r.2).symm)

theorem td_grp_mem : ∀ (E : List (Nat × Nat)) (e : Nat × Nat), e ∈ E → e.1 ≠ 0 → td_grp E e.1 = td_grp E e.2
  | [], e, h, _ => absurd h (by simp)
  | f :: E, e, h, h0 => by
    show (if f.1 = 0 then td_grp E else td_mg (td_grp E) f.1 f.2) e.1 = (if f.1 = 0 then td_grp E else td_mg (td_grp E) f.1 f.2) e.2
    rcases List.mem_cons.mp h with h | h
    · rw [← h, if_neg h0, td_mgi]
      exact Or.inr (Or.inl ⟨rfl, rfl⟩)
    · have ih := td_grp_mem E e h h0
      by_cases q : f.1 = 0
      · rw [if_pos q]; exact ih
      · rw [if_neg q, td_mgi]
        exact Or.inl ih

theorem td_grp_lt (n : Nat) : ∀ (E : List (Nat × Nat)), (∀ e, e ∈ E → e.1 < n) → ∀ x, x < n → td_grp E x < n
  | [], _, x, h => h
  | e :: E, he, x, h => by
    have ih := td_grp_lt n E (fun f hf => he f (List.mem_cons_of_mem _ hf))
    show (if e.1 = 0 then td_grp E else td_mg (td_grp E) e.1 e.2) x < n
    by_cases q : e.1 = 0
    · rw [if_pos q]; exact ih x h
    · rw [if_neg q]
      unfold td_mg
      split
      · exact ih _ (he e List.mem_cons_self)
      · exact ih x h

/-- how many numbers below n have P -/
def td_ct (P : Nat → Bool) : Nat → Nat
  | 0 => 0
  | n + 1 => td_ct P n + (if P n = true then 1 else 0)
theorem td_ct_one {P : Nat → Bool} {c : Nat} : ∀ n, (∀ x, x < n → P x = true → x = c) → td_ct P n ≤ 1
  | 0, _ => Nat.zero_le _
  | n + 1, h => by
    show td_ct P n + (if P n = true then 1 else 0) ≤ 1
    have ih := td_ct_one n (fun x hx => h x (by omega))
    by_cases q : P n = true
    · have e := h n (by omega) q
      have z : td_ct P n ≤ 0 := by
        clear ih
        have : ∀ m, m ≤ n → td_ct P m = 0 := by
          intro m
          induction m with
          | zero => intro _; rfl
          | succ m ih =>
            intro hm
            show td_ct P m + (if P m = true then 1 else 0) = 0
            rw [ih (by omega), if_neg (fun r => by have := h m (by omega) r; omega)]
        rw [this n (Nat.le_refl _)]
        exact Nat.le_refl _
      rw [if_pos q]; omega
    · rw [if_neg q]; omega
theorem td_ct_le {P Q : Nat → Bool} {c : Nat} : ∀ n, (∀ x, x < n → x ≠ c → P x = true → Q x = true) → td_ct P n ≤ td_ct Q n + (if c < n then 1 else 0)
  | 0, _ => Nat.zero_le _
  | n + 1, h => by
    have ih := td_ct_le n (fun x hx => h x (by omega))
    show td_ct P n + (if P n = true then 1 else 0) ≤ td_ct Q n + (if Q n = true then 1 else 0) + _
    by_cases q : n = c
    · rw [if_pos (show c < n + 1 by omega)]
      rw [if_neg (show ¬ c < n by omega)] at ih
      split <;> split <;> omega
    · have h2 := h n (by omega) q
      have h3 : (if c < n then 1 else 0) = (if c < n + 1 then 1 else 0) := by
        by_cases r : c < n
        · rw [if_pos r, if_pos (by omega)]
        · rw [if_neg r, if_neg (by omega)]
      rw [← h3]
      by_cases r : P n = true
      · rw [if_pos r, if_pos (h2 r)]; omega
      · rw [if_neg r]; omega
theorem td_ct_all : ∀ n, td_ct (fun x => decide (x ≠ 0)) (n + 1) = n
  | 0 => rfl
  | n + 1 => by
    show td_ct (fun x => decide (x ≠ 0)) (n + 1) + (if decide (n + 1 ≠ 0) = true then 1 else 0) = n + 1
    rw [td_ct_all n, if_pos (by simp)]
def td_fx (g : Nat → Nat) (n : Nat) : Nat := td_ct (fun x => decide (x ≠ 0 ∧ g x = x)) n
/-- k links leave at least so many groups -/
theorem td_groups (n : Nat) (hn : 1 ≤ n) : ∀ (E : List (Nat × Nat)), (∀ e, e ∈ E → e.1 < e.2) → n + td_deg E 0 ≤ td_fx (td_grp E) n + E.length + 1
  | [], _ => by
    obtain ⟨m, rfl⟩ : ∃ m, n = m + 1 := ⟨n - 1, by omega⟩
    have h : td_fx (td_grp []) (m + 1) = td_ct (fun x => decide (x ≠ 0)) (m + 1) := by
      show td_ct (fun x => decide (x ≠ 0 ∧ x = x)) (m + 1) = _
      congr 1
      funext x
      simp
    rw [h, td_ct_all]
    show m + 1 + 0 ≤ m + 0 + 1
    omega
  | e :: E, he => by
    have ih := td_groups n hn E (fun f hf => he f (List.mem_cons_of_mem _ hf))
    have hlt := he e List.mem_cons_self
    have hd : td_deg (e :: E) 0 = td_deg E 0 + (if e.1 = 0 then 1 else 0) + (if e.2 = 0 then 1 else 0) := rfl
    rw [if_neg (show ¬ e.2 = 0 by omega)] at hd
    rw [List.length_cons]
    by_cases q : e.1 = 0
    · have hg : td_grp (e :: E) = td_grp E := by
        show (if e.1 = 0 then _ else _) = _
        rw [if_pos q]
      rw [hg]
      rw [if_pos q] at hd
      omega
    · have hg : td_grp (e :: E) = td_mg (td_grp E) e.1 e.2 := by
        show (if e.1 = 0 then _ else _) = _
        rw [if_neg q]
      rw [if_neg q] at hd
      have h1 : td_fx (td_grp E) n ≤ td_fx (td_mg (td_grp E) e.1 e.2) n + (if td_grp E e.2 < n then 1 else 0) := by
        refine td_ct_le n (fun x hx hc hP => ?_)
        have hP := of_decide_eq_true hP
        refine decide_eq_true ⟨hP.1, ?_⟩
        unfold td_mg
        rw [if_neg (fun r => hc (hP.2.symm.trans r))]
        exact hP.2
      rw [hg]
      split at h1 <;> omega

theorem td_count {n : Nat} (hn : 3 ≤ n) {E : List (Nat × Nat)} (he : ∀ e, e ∈ E → e.1 < e.2) (h0 : td_deg E 0 = 2) (hj : ∀ x y, 1 ≤ x → x < n → 1 ≤ y → y < n → td_grp E x = td_grp E y) : n ≤ E.length := by
  have h1 := td_groups n (by omega) E he
  have h2 : td_fx (td_grp E) n ≤ 1 := by
    refine td_ct_one (c := td_grp E 1) n (fun x hx hP => ?_)
    have hP := of_decide_eq_true hP
    exact hP.2.symm.trans (hj x 1 (by omega) hx (by omega) (by omega))
  omega
/-- no tour, but tree links enough: some city has three -/
theorem td_three {n : Nat} (hn : 3 ≤ n) {E : List (Nat × Nat)} (he : ∀ e, e ∈ E → e.1 < e.2 ∧ e.2 < n) (h0 : td_deg E 0 = 2) (hj : ∀ x y, 1 ≤ x → x < n → 1 ≤ y → y < n → td_grp E x = td_grp E y)
    {v : Nat} (hv : v < n) (hd : td_deg E v ≠ 2) : ∃ x, x < n ∧ 2 < td_deg E x := by
  refine Classical.byContradiction (fun hc => ?_)
  have h1 := td_count hn (fun e h => (he e h).1) h0 hj
  have h2 := td_hand n E (fun e h => ⟨by have := he e h; omega, (he e h).2⟩)
  have h3 := td_S_eq2 (f := fun x => (td_deg E x : Int)) n (fun x hx => by
    have : ¬ 2 < td_deg E x := fun q => hc ⟨x, hx, q⟩
    omega) (by omega) v hv
  omega
end
section
/-! a joined set of links with two at every city is a tour -/
theorem td_deg_ex : ∀ (R : List (Nat × Nat)) (v : Nat), 0 < td_deg R v → ∃ e, e ∈ R ∧ (e.1 = v ∨ e.2 = v)
  | [], v, h => absurd h (Nat.lt_irrefl 0)
  | e :: R, v, h => by
    by_cases a : e.1 = v
    · exact ⟨e, List.mem_cons_self, Or.inl a⟩
    · by_cases b : e.2 = v
      · exact ⟨e, List.mem_cons_self, Or.inr b⟩
      · have h2 : 0 < td_deg R v + (if e.1 = v then 1 else 0) + (if e.2 = v then 1 else 0) := h
        rw [if_neg a, if_neg b] at h2
        obtain ⟨f, hf, hv⟩ := td_deg_ex R v h2
        exact ⟨f, List.mem_cons_of_mem _ hf, hv⟩
theorem td_deg_pos : ∀ (R : List (Nat × Nat)) (e : Nat × Nat) (v : Nat), e ∈ R → (e.1 = v ∨ e.2 = v) → 0 < td_deg R v
  | [], e, v, h, _ => absurd h (by simp)
  | f :: R, e, v, h, hv => by
    show 0 < td_deg R v + (if f.1 = v then 1 else 0) + (if f.2 = v then 1 else 0)
    rcases List.mem_cons.mp h with h | h
    · subst h
      rcases hv with hv | hv
      · rw [if_pos hv]; omega
      · rw [if_pos hv]; omega
    · have := td_deg_pos R e v h hv
      omega

def td_Ch (n : Nat) (E : List (Nat × Nat)) (p : List Nat) : Prop := (p ++ [0]).Nodup ∧ (∀ x, x ∈ p → x < n) ∧ ∀ e, e ∈ td_pe (p ++ [0]) → e ∈ E

theorem td_ext {n : Nat} (hn : 3 ≤ n) {E : List (Nat × Nat)} (hE : E.Nodup) (he : ∀ e, e ∈ E → e.1 < e.2 ∧ e.2 < n) (hd : ∀ x, x < n → td_deg E x = 2) {x : Nat} {p : List Nat} (h : td_Ch n E (x :: p)) :
    ∃ y, y < n ∧ td_nm y x ∈ E ∧ td_nm y x ∉ td_pe (x :: (p ++ [0])) ∧ (y ∉ x :: (p ++ [0]) ∨ y = 0) := by
  obtain ⟨h1, h2, h3⟩ := h
  have hx := h2 x List.mem_cons_self
  have hx0 : x ≠ 0 := fun q => by
    have := (List.nodup_cons.mp (show (x :: (p ++ [0])).Nodup from h1)).1
    rw [q] at this
    exact this (by simp)
  have hD : (td_pe (x :: (p ++ [0]))).Nodup := td_pe_nodup _ h1
  obtain ⟨R, hR⟩ := td_compl _ E hD h3
  have hnd : (td_pe (x :: (p ++ [0])) ++ R).Nodup := hR.symm.nodup hE
  have c1 := td_pe_deg 0 x p x
  have k1 := (show (x :: (p ++ [0])).Nodup from h1).count (a := x)
  rw [if_pos List.mem_cons_self] at k1
  rw [k1, if_pos rfl, if_neg (fun q => hx0 q.symm)] at c1
  have c2 := td_deg_perm hR x
  rw [td_deg_app, hd x hx] at c2
  obtain ⟨e, heR, hev⟩ := td_deg_ex R x (by omega)
  have heE : e ∈ E := hR.mem_iff.mp (List.mem_append_right _ heR)
  have hee := he e heE
  have heD : e ∉ td_pe (x :: (p ++ [0])) := fun q => (List.nodup_append.mp hnd).2.2 e q e heR rfl
  have hy : ∃ y, y < n ∧ td_nm y x = e ∧ y ≠ x ∧ (e.1 = y ∨ e.2 = y) := by
    rcases hev with hev | hev
    · refine ⟨e.2, hee.2, ?_, by omega, Or.inr rfl⟩
      rw [td_nm_comm, ← hev, td_nm_of hee.1]
    · refine ⟨e.1, by omega, ?_, by omega, Or.inl rfl⟩
      rw [← hev, td_nm_of hee.1]
  obtain ⟨y, hyn, hye, hyx, hyv⟩ := hy
  refine ⟨y, hyn, by rw [hye]; exact heE, by rw [hye]; exact heD, ?_⟩
  by_cases hm : y ∈ x :: (p ++ [0])
  · right
    have c3 := td_pe_deg 0 y p x
    have k3 := (show (x :: (p ++ [0])).Nodup from h1).count (a := y)
    rw [if_pos hm] at k3
    rw [k3, if_neg (fun q => hyx q.symm)] at c3
    have c4 := td_deg_perm hR y
    rw [td_deg_app, hd y hyn] at c4
    have c5 := td_deg_pos R e y heR hyv
    refine Classical.byContradiction (fun q => ?_)
    rw [if_neg (fun r => q r.symm)] at c3
    omega
  · exact Or.inl hm

theorem td_full {n : Nat} (hn : 3 ≤ n) {E : List (Nat × Nat)} (hE : E.Nodup) (he : ∀ e, e ∈ E → e.1 < e.2 ∧ e.2 < n) (hd : ∀ x, x < n → td_deg E x = 2)
    (hj : ∀ x y, 1 ≤ x → x < n → 1 ≤ y → y < n → td_grp E x = td_grp E y) {x : Nat} {p : List Nat} (h : td_Ch n E (x :: p)) (h0 : td_nm 0 x ∈ E) (h0' : td_nm 0 x ∉ td_pe (x :: (p ++ [0]))) :
    n ≤ p.length + 2 := by
  obtain ⟨h1, h2, h3⟩ := h
  have hx := h2 x List.mem_cons_self
  have hx0 : x ≠ 0 := fun q => by
    have := (List.nodup_cons.mp (show (x :: (p ++ [0])).Nodup from h1)).1
    rw [q] at this
    exact this (by simp)
  have hD : (td_nm 0 x :: td_pe (x :: (p ++ [0]))).Nodup := List.nodup_cons.mpr ⟨h0', td_pe_nodup _ h1⟩
  obtain ⟨R, hR⟩ := td_compl _ E hD (fun e q => by
    rcases List.mem_cons.mp q with q | q
    · rw [q]; exact h0
    · exact h3 e q)
  have hz : ∀ v, v ∈ x :: p → td_deg R v = 0 := by
    intro v hv
    have c1 := td_pe_deg 0 v p x
    have hv' : v ∈ x :: (p ++ [0]) := by
      rcases List.mem_cons.mp hv with q | q
      · rw [q]; exact List.mem_cons_self
      · exact List.mem_cons_of_mem _ (List.mem_append_left _ q)
    have k1 := (show (x :: (p ++ [0])).Nodup from h1).count (a := v)
    rw [if_pos hv'] at k1
    have hv0 : v ≠ 0 := fun q => by
      rw [q] at hv
      exact (List.nodup_append.mp (show ((x :: p) ++ [0]).Nodup from h1)).2.2 0 hv 0 (by simp) rfl
    rw [k1, if_neg (c := 0 = v) (fun q => hv0 q.symm)] at c1
    have c2 := td_deg_perm hR v
    rw [td_deg_app, hd v (h2 v hv)] at c2
    have c3 : td_deg (td_nm 0 x :: td_pe (x :: (p ++ [0]))) v = td_deg (td_pe (x :: (p ++ [0]))) v + (if (td_nm 0 x).1 = v then 1 else 0) + (if (td_nm 0 x).2 = v then 1 else 0) := rfl
    have c4 := td_nm_deg 0 x v
    rw [if_neg (c := 0 = v) (fun q => hv0 q.symm)] at c4
    omega
  have hcl := td_closed (fun v => v ∈ x :: p) E (fun e heE hne => by
    have hm := hR.mem_iff.mpr heE
    have hlt := he e heE
    rw [List.mem_append] at hm
    rcases hm with hm | hm
    · rcases List.mem_cons.mp hm with hm | hm
      · rw [hm, td_nm_lt (by omega)] at hne
        exact absurd rfl hne
      · have := td_pe_mem _ _ hm
        have a1 : e.1 ∈ (x :: p) ++ [0] := this.1
        have a2 : e.2 ∈ (x :: p) ++ [0] := this.2
        rw [List.mem_append] at a1 a2
        have b1 : e.1 ∈ x :: p := by
          rcases a1 with a1 | a1
          · exact a1
          · exact absurd (List.mem_singleton.mp a1) hne
        have b2 : e.2 ∈ x :: p := by
          rcases a2 with a2 | a2
          · exact a2
          · have := List.mem_singleton.mp a2
            omega
        exact ⟨fun _ => b2, fun _ => b1⟩
    · refine ⟨fun q => ?_, fun q => ?_⟩
      · have := td_deg_pos R e _ hm (Or.inl rfl)
        have := hz _ q
        omega
      · have := td_deg_pos R e _ hm (Or.inr rfl)
        have := hz _ q
        omega)
  have hall : ∀ v, v ∈ List.range' 1 (n - 1) → v ∈ x :: p := by
    intro v hv
    rw [List.mem_range'_1] at hv
    exact (hcl x v (hj x v (by omega) hx (by omega) (by omega))).mp List.mem_cons_self
  have := (List.nodup_range' (s := 1) (n := n - 1)).length_le_of_subset hall
  rw [List.length_range', List.length_cons] at this
  omega

theorem td_chain {n : Nat} (hn : 3 ≤ n) {E : List (Nat × Nat)} (hE : E.Nodup) (he : ∀ e, e ∈ E → e.1 < e.2 ∧ e.2 < n) (hd : ∀ x, x < n → td_deg E x = 2)
    (hj : ∀ x y, 1 ≤ x → x < n → 1 ≤ y → y < n → td_grp E x = td_grp E y) : ∀ k, k + 2 ≤ n → ∃ x p, p.length = k ∧ td_Ch n E (x :: p)
  | 0, _ => by
    obtain ⟨e, heE, hv⟩ := td_deg_ex E 0 (by rw [hd 0 (by omega)]; omega)
    have hlt := he e heE
    have h1 : e.1 = 0 := by omega
    refine ⟨e.2, [], rfl, ?_, ?_, ?_⟩
    · show [e.2, 0].Nodup
      simp; omega
    · intro x hx
      rw [List.mem_singleton.mp hx]; exact hlt.2
    · intro f hf
      have hf : f ∈ [td_nm e.2 0] := hf
      rw [List.mem_singleton.mp hf, td_nm_comm, ← h1, td_nm_of hlt.1]
      exact heE
  | k + 1, hk => by
    obtain ⟨x, p, hp, hC⟩ := td_chain hn hE he hd hj k (by omega)
    obtain ⟨y, hy, hyE, hyD, hc⟩ := td_ext hn hE he hd hC
    rcases hc with hc | hc
    · refine ⟨y, x :: p, by rw [List.length_cons, hp], ?_, ?_, ?_⟩
      · exact List.nodup_cons.mpr ⟨hc, hC.1⟩
      · intro z hz
        rcases List.mem_cons.mp hz with hz | hz
        · rw [hz]; exact hy
        · exact hC.2.1 z hz
      · intro f hf
        rcases List.mem_cons.mp (show f ∈ td_nm y x :: td_pe (x :: (p ++ [0])) from hf) with hf | hf
        · rw [hf]; exact hyE
        · exact hC.2.2 f hf
    · rw [hc] at hyE hyD
      have := td_full hn hE he hd hj hC hyE hyD
      omega

theorem td_ham {n : Nat} (hn : 3 ≤ n) {E : List (Nat × Nat)} (hE : E.Nodup) (he : ∀ e, e ∈ E → e.1 < e.2 ∧ e.2 < n) (hd : ∀ x, x < n → td_deg E x = 2)
    (hj : ∀ x y, 1 ≤ x → x < n → 1 ≤ y → y < n → td_grp E x = td_grp E y) : ∃ p, td_P n p ∧ (td_T p).Perm E := by
  obtain ⟨x, p, hp, hC⟩ := td_chain hn hE he hd hj (n - 2) (by omega)
  have hnd : (0 :: (x :: p)).Nodup := by
    refine (List.perm_append_comm (l₁ := [0]) (l₂ := x :: p)).symm.nodup ?_
    exact hC.1
  have hP : td_P n (x :: p) := by
    refine ⟨by rw [List.length_cons, hp]; omega, (List.nodup_cons.mp hnd).2, fun v hv => ⟨?_, hC.2.1 v hv⟩⟩
    refine Nat.pos_of_ne_zero (fun q => ?_)
    rw [q] at hv
    exact (List.nodup_cons.mp hnd).1 hv
  refine ⟨x :: p, hP, ?_⟩
  obtain ⟨y, hy, hyE, hyD, hc⟩ := td_ext hn hE he hd hC
  have hy0 : y = 0 := by
    rcases hc with hc | hc
    · refine Classical.byContradiction (fun q => hc ?_)
      exact List.mem_append_left [0] (td_P_all hP y (by omega) hy)
    · exact hc
  subst hy0
  obtain ⟨R, hR⟩ := td_compl (td_T (x :: p)) E (td_T_nodup hn hP) (fun e q => by
    rcases List.mem_cons.mp (show e ∈ td_nm 0 x :: td_pe (x :: (p ++ [0])) from q) with q | q
    · rw [q]; exact hyE
    · exact hC.2.2 e q)
  have h1 := td_hand n E (fun e h => ⟨by have := he e h; omega, (he e h).2⟩)
  have h2 : td_S (fun x => (td_deg E x : Int)) n = td_S (fun x => 2 * (fun _ => (1 : Int)) x) n := td_S_congr n (fun x hx => by rw [hd x hx]; rfl)
  rw [td_S_two] at h2
  have h3 : td_S (fun _ => (1 : Int)) n = n := by
    clear hd hj hC hR hP hy hyE hyD hc h1 h2 he hn hp
    induction n with
    | zero => rfl
    | succ n ih =>
      show td_S (fun _ => (1 : Int)) n + 1 = _
      rw [ih]; simp
  have h4 := hR.length_eq
  rw [List.length_append, td_T_len hP] at h4
  have h5 : R.length = 0 := by omega
  rw [List.length_eq_zero_iff.mp h5, List.append_nil] at hR
  exact hR
end
section
/-! the two ways round a tour, and the dictionary order -/
theorem td_pe_rev : ∀ (l : List Nat), td_pe l.reverse = (td_pe l).reverse
  | [] => rfl
  | [_] => rfl
  | x :: y :: l => by
    rw [List.reverse_cons, List.reverse_cons, td_pe_snoc, ← List.reverse_cons, td_pe_rev (y :: l)]
    show _ = (td_nm x y :: td_pe (y :: l)).reverse
    rw [List.reverse_cons, td_nm_comm]
theorem td_T_rev (p : List Nat) : (td_T p.reverse).Perm (td_T p) := by
  have h : 0 :: (p.reverse ++ [0]) = (0 :: (p ++ [0])).reverse := by simp
  show (td_pe (0 :: (p.reverse ++ [0]))).Perm _
  rw [h, td_pe_rev]
  exact List.reverse_perm _
theorem td_P_rev {n : Nat} {p : List Nat} (h : td_P n p) : td_P n p.reverse :=
  ⟨by rw [List.length_reverse]; exact h.1, (List.reverse_perm p).symm.nodup h.2.1, fun x hx => h.2.2 x (List.mem_reverse.mp hx)⟩
theorem td_P0 {n : Nat} {p : List Nat} (h : td_P n p) : (0 :: p).Nodup := List.nodup_cons.mpr ⟨fun q => by have := (h.2.2 0 q).1; omega, h.2.1⟩

theorem td_step {q s : List Nat} {x y c : Nat} (h : td_nm x c ∈ td_pe (q ++ x :: y :: s)) (h1 : c ∉ q) (h2 : c ≠ x) (h3 : x ∉ y :: s) : c = y := by
  rw [td_pe_app] at h
  rw [List.mem_append] at h
  rcases h with h | h
  · have h4 := td_pe_mem _ _ h
    have h5 : c ∈ q ++ [x] := by
      rcases td_nm_or x c with a | a <;> rw [a] at h4
      · exact h4.2
      · exact h4.1
    rw [List.mem_append] at h5
    rcases h5 with h5 | h5
    · exact absurd h5 h1
    · exact absurd (List.mem_singleton.mp h5) h2
  · rcases List.mem_cons.mp (show td_nm x c ∈ td_nm x y :: td_pe (y :: s) from h) with h | h
    · exact td_nm_inj h
    · have h4 := td_pe_mem _ _ h
      rcases td_nm_or x c with a | a <;> rw [a] at h4
      · exact absurd h4.1 h3
      · exact absurd h4.2 h3

theorem td_pre {n : Nat} {p : List Nat} (hP : td_P n p) : ∀ (q2 q1 s : List Nat) (x : Nat), p = q1 ++ x :: s → (0 :: (q1 ++ x :: q2)).Nodup → (∀ e, e ∈ td_pe (x :: q2) → e ∈ td_T p) → ∃ s', p = q1 ++ x :: (q2 ++ s')
  | [], q1, s, x, hp, _, _ => ⟨s, hp⟩
  | c :: q2, q1, s, x, hp, hn, he => by
    have h1 : td_nm x c ∈ td_T p := he _ List.mem_cons_self
    have hn1 := List.nodup_cons.mp hn
    have hn2 := List.nodup_append.mp hn1.2
    have hn3 := List.nodup_cons.mp hn2.2.1
    have hc0 : c ≠ 0 := fun q => hn1.1 (by rw [← q]; simp)
    have hcx : c ≠ x := fun q => hn3.1 (by rw [← q]; simp)
    have hcq : c ∉ q1 := fun q => hn2.2.2 c q c (by simp) rfl
    have hx0 : x ≠ 0 := fun q => hn1.1 (by rw [← q]; simp)
    have hxs : x ∉ s := by
      have h := td_P0 hP
      rw [hp] at h
      exact (List.nodup_cons.mp (List.nodup_append.mp (List.nodup_cons.mp h).2).2.1).1
    match s, hp, hxs with
    | [], hp, _ =>
      have h2 : td_nm x c ∈ td_pe ((0 :: q1) ++ x :: 0 :: []) := by
        have : 0 :: (p ++ [0]) = (0 :: q1) ++ x :: 0 :: [] := by rw [hp]; simp
        rw [← this]; exact h1
      exact absurd (td_step h2 (by simp [hc0, hcq]) hcx (by simp [hx0])) hc0
    | y :: s, hp, hxs =>
      have h2 : td_nm x c ∈ td_pe ((0 :: q1) ++ x :: y :: (s ++ [0])) := by
        have : 0 :: (p ++ [0]) = (0 :: q1) ++ x :: y :: (s ++ [0]) := by rw [hp]; simp
        rw [← this]; exact h1
      have hcy : c = y := td_step h2 (by simp [hc0, hcq]) hcx (by
        intro q
        rcases List.mem_cons.mp q with q | q
        · exact hxs (by rw [q]; exact List.mem_cons_self)
        · rw [List.mem_append] at q
          rcases q with q | q
          · exact hxs (List.mem_cons_of_mem _ q)
          · exact hx0 (List.mem_singleton.mp q))
      subst hcy
      obtain ⟨s', hs'⟩ := td_pre hP q2 (q1 ++ [x]) s c (by rw [hp]; simp) (by
        have : q1 ++ [x] ++ c :: q2 = q1 ++ x :: c :: q2 := by simp
        rw [this]; exact hn) (fun e h => he e (List.mem_cons_of_mem _ h))
      exact ⟨s', by rw [hs']; simp⟩

/-- a tour that has the links of the way 0, a, q can be gone through from there -/
theorem td_orient {n a : Nat} {p q : List Nat} (hn : 3 ≤ n) (hP : td_P n p) (hq : (0 :: a :: q).Nodup) (he : ∀ e, e ∈ td_pe (0 :: a :: q) → e ∈ td_T p) :
    ∃ p' s, td_P n p' ∧ (td_T p').Perm (td_T p) ∧ p' = a :: (q ++ s) := by
  obtain ⟨h, z, hh, hz, hne, hp, ⟨q1, hq1⟩, ⟨q2, hq2⟩⟩ := td_T_split hn hP
  have ha : 0 < a := Nat.pos_of_ne_zero (fun r => (List.nodup_cons.mp hq).1 (by rw [← r]; exact List.mem_cons_self))
  have h1 : td_nm 0 a ∈ td_T p := he _ List.mem_cons_self
  rw [td_nm_lt ha] at h1
  have h2 := hp.mem_iff.mp h1
  rw [List.mem_append] at h2
  have he' : ∀ e, e ∈ td_pe (a :: q) → e ∈ td_T p := fun e h => he e (List.mem_cons_of_mem _ h)
  rcases h2 with h2 | h2
  · have := (hP.2.2 _ (td_pe_mem p _ h2).1).1
    exact absurd this (by dsimp only; omega)
  · simp only [List.mem_cons, List.not_mem_nil, or_false, Prod.mk.injEq, true_and] at h2
    rcases h2 with h2 | h2
    · subst h2
      obtain ⟨s, hs⟩ := td_pre hP q [] q1 a hq1 hq he'
      exact ⟨p, s, hP, List.Perm.refl _, hs⟩
    · subst h2
      have hr : p.reverse = [] ++ a :: q2.reverse := by rw [hq2]; simp
      obtain ⟨s, hs⟩ := td_pre (td_P_rev hP) q [] _ a hr hq (fun e h => (td_T_rev p).mem_iff.mpr (he' e h))
      exact ⟨p.reverse, s, td_P_rev hP, td_T_rev p, hs⟩

/-! the dictionary -/
def td_fac : Nat → Nat
  | 0 => 1
  | n + 1 => (n + 1) * td_fac n
theorem td_fac_pos : ∀ n, 0 < td_fac n
  | 0 => Nat.one_pos
  | n + 1 => Nat.mul_pos (by omega) (td_fac_pos n)
def td_nt (set skip : Nat) : Nat → Nat → Nat
  | 0, _ => 0
  | d + 1, ls => if set / 2 ^ (6 - d) % 2 = 1 then (if ls = skip then 6 - d else td_nt set skip d (ls + 1)) else td_nt set skip d ls
def td_nth (set skip : Nat) : Nat := td_nt set skip 7 0
def td_clr (set c : Nat) : Nat := if set / 2 ^ c % 2 = 1 then set - 2 ^ c else set
def td_spg : Nat → Nat → Nat → List Nat
  | 0, _, _ => []
  | d + 1, rest, left => td_nth left (rest / td_fac d) :: td_spg d (rest % td_fac d) (td_clr left (td_nth left (rest / td_fac d)))
def td_sp (n t : Nat) : List Nat := td_spg (n - 1) t (2 ^ n - 2)
def td_pop (s : Nat) : Nat := s % 2 + s / 2 % 2 + s / 4 % 2 + s / 8 % 2 + s / 16 % 2 + s / 32 % 2 + s / 64 % 2
theorem td_t1 : ∀ l, l < 128 → ∀ s, s < 7 → s < td_pop l → (td_nth l s < 7 ∧ l / 2 ^ (td_nth l s) % 2 = 1) := by decide +kernel
theorem td_t2 : ∀ l, l < 128 → ∀ c, c < 7 → l / 2 ^ c % 2 = 1 → (td_clr l c < 128 ∧ td_pop (td_clr l c) + 1 = td_pop l) := by decide +kernel
def td_tb (l c x : Nat) : Bool := !(decide (l / 2 ^ c % 2 = 1)) || (decide (td_clr l c / 2 ^ x % 2 = 1) == (decide (l / 2 ^ x % 2 = 1) && !(decide (x = c))))
theorem td_t3b : ∀ l, l < 128 → ∀ c, c < 7 → ∀ x, x < 7 → td_tb l c x = true := by decide +kernel
theorem td_t3c {A B D : Bool} (h : (A == (B && !D)) = true) : A = true ↔ (B = true ∧ ¬ D = true) := by
  cases A <;> cases B <;> cases D <;> simp at h ⊢
theorem td_t3 (l : Nat) (hl : l < 128) (c : Nat) (hc : c < 7) (h : l / 2 ^ c % 2 = 1) (x : Nat) (hx : x < 7) : (td_clr l c / 2 ^ x % 2 = 1 ↔ (l / 2 ^ x % 2 = 1 ∧ x ≠ c)) := by
  have q := td_t3b l hl c hc x hx
  unfold td_tb at q
  rw [decide_eq_true h, Bool.not_true, Bool.false_or] at q
  have r := td_t3c q
  rw [decide_eq_true_iff, decide_eq_true_iff, decide_eq_true_iff] at r
  exact r
theorem td_t4 : ∀ l, l < 128 → ∀ c, c < 7 → l / 2 ^ c % 2 = 1 → (td_nth l (td_pop (l % 2 ^ c)) = c ∧ td_pop (l % 2 ^ c) < td_pop l) := by decide +kernel
theorem td_t5 : ∀ l, l < 128 → ∀ s, s < 7 → ∀ s', s' < 7 → s < s' → s' < td_pop l → td_nth l s < td_nth l s' := by decide +kernel
theorem td_pop_le : ∀ l, l < 128 → td_pop l ≤ 7 := by decide +kernel

theorem td_spg_P : ∀ (d rest left : Nat), rest < td_fac d → left < 128 → td_pop left = d → (td_spg d rest left).length = d ∧ (td_spg d rest left).Nodup ∧ ∀ x, x ∈ td_spg d rest left → (x < 7 ∧ left / 2 ^ x % 2 = 1)
  | 0, _, _, _, _, _ => ⟨rfl, List.nodup_nil, fun x h => absurd h (by simp [td_spg])⟩
  | d + 1, rest, left, hr, hl, hp => by
    have h7 := td_pop_le left hl
    have hf := td_fac_pos d
    have hs : rest / td_fac d < d + 1 := Nat.div_lt_of_lt_mul (by rw [Nat.mul_comm]; exact hr)
    have h1 := td_t1 left hl (rest / td_fac d) (by omega) (by omega)
    have h2 := td_t2 left hl _ h1.1 h1.2
    have h3 := td_t3 left hl _ h1.1 h1.2
    obtain ⟨a, b, c⟩ := td_spg_P d (rest % td_fac d) (td_clr left (td_nth left (rest / td_fac d))) (Nat.mod_lt _ hf) h2.1 (by omega)
    refine ⟨by show (td_spg d _ _).length + 1 = d + 1; rw [a], List.nodup_cons.mpr ⟨fun q => ?_, b⟩, fun x hx => ?_⟩
    · have := c _ q
      exact ((h3 _ this.1).mp this.2).2 rfl
    · rcases List.mem_cons.mp hx with hx | hx
      · rw [hx]; exact h1
      · have := c _ hx
        exact ⟨this.1, ((h3 _ this.1).mp this.2).1⟩

theorem td_spg_all : ∀ (d left : Nat) (q : List Nat), q.length = d → q.Nodup → (∀ x, x ∈ q → x < 7 ∧ left / 2 ^ x % 2 = 1) → left < 128 → td_pop left = d → ∃ rest, rest < td_fac d ∧ td_spg d rest left = q
  | 0, _, q, h, _, _, _, _ => ⟨0, td_fac_pos 0, (List.length_eq_zero_iff.mp h).symm⟩
  | d + 1, left, q, h, hn, hq, hl, hp => by
    match q, h, hn, hq with
    | c :: q, h, hn, hq =>
      have hc := hq c List.mem_cons_self
      have h2 := td_t2 left hl _ hc.1 hc.2
      have h3 := td_t3 left hl _ hc.1 hc.2
      have h4 := td_t4 left hl _ hc.1 hc.2
      have hn' := List.nodup_cons.mp hn
      obtain ⟨r, hr, e⟩ := td_spg_all d (td_clr left c) q (by rw [List.length_cons] at h; omega) hn'.2 (fun x hx => by
        have := hq x (List.mem_cons_of_mem _ hx)
        exact ⟨this.1, (h3 x this.1).mpr ⟨this.2, fun z => hn'.1 (z ▸ hx)⟩⟩) h2.1 (by omega)
      have hd : (r + td_fac d * td_pop (left % 2 ^ c)) / td_fac d = td_pop (left % 2 ^ c) := by
        rw [Nat.add_mul_div_left _ _ (td_fac_pos d), Nat.div_eq_of_lt hr, Nat.zero_add]
      have hm : (r + td_fac d * td_pop (left % 2 ^ c)) % td_fac d = r := by
        rw [Nat.add_mul_mod_self_left, Nat.mod_eq_of_lt hr]
      refine ⟨r + td_fac d * td_pop (left % 2 ^ c), ?_, ?_⟩
      · show _ < (d + 1) * td_fac d
        have hk : td_pop (left % 2 ^ c) ≤ d := by omega
        have := Nat.mul_le_mul_left (td_fac d) hk
        rw [Nat.succ_mul, Nat.mul_comm d]
        omega
      · show td_nth left _ :: td_spg d _ _ = _
        rw [hd, hm, h4.1, e]

/-- before in the dictionary -/
def td_lx : List Nat → List Nat → Prop
  | x :: l, y :: m => x < y ∨ (x = y ∧ td_lx l m)
  | _, _ => False
theorem td_spg_lx : ∀ (d left r r' : Nat), r < r' → r' < td_fac d → left < 128 → td_pop left = d → td_lx (td_spg d r left) (td_spg d r' left)
  | 0, _, r, r', h, h', _, _ => by
    have : r' < 1 := h'
    omega
  | d + 1, left, r, r', h, h', hl, hp => by
    have h7 := td_pop_le left hl
    have hf := td_fac_pos d
    have hs' : r' / td_fac d < d + 1 := Nat.div_lt_of_lt_mul (by rw [Nat.mul_comm]; exact h')
    have hle : r / td_fac d ≤ r' / td_fac d := Nat.div_le_div_right (Nat.le_of_lt h)
    show _ < _ ∨ (_ = _ ∧ td_lx _ _)
    by_cases q : r / td_fac d = r' / td_fac d
    · right
      have h1 := td_t1 left hl (r' / td_fac d) (by omega) (by omega)
      have h2 := td_t2 left hl _ h1.1 h1.2
      rw [q]
      refine ⟨rfl, td_spg_lx d _ _ _ ?_ (Nat.mod_lt _ hf) h2.1 (by omega)⟩
      have a := Nat.div_add_mod r (td_fac d)
      have b := Nat.div_add_mod r' (td_fac d)
      rw [q] at a
      omega
    · exact Or.inl (td_t5 left hl _ (by omega) _ (by omega) (by omega) (by omega))

theorem td_pw : ∀ n, n < 8 → 3 ≤ n → (2 ^ n - 2 < 128 ∧ td_pop (2 ^ n - 2) = n - 1) := by decide +kernel
theorem td_pb : ∀ n, n < 8 → 3 ≤ n → ∀ x, x < 7 → ((2 ^ n - 2) / 2 ^ x % 2 = 1 ↔ (1 ≤ x ∧ x < n)) := by decide +kernel
theorem td_sp_P {n t : Nat} (h3 : 3 ≤ n) (h7 : n ≤ 7) (ht : t < td_fac (n - 1)) : td_P n (td_sp n t) := by
  have h := td_pw n (by omega) h3
  obtain ⟨a, b, c⟩ := td_spg_P (n - 1) t (2 ^ n - 2) ht h.1 h.2
  exact ⟨by show (td_spg _ _ _).length + 1 = n; rw [a]; omega, b, fun x hx => (td_pb n (by omega) h3 x (c x hx).1).mp (c x hx).2⟩
theorem td_sp_all {n : Nat} {p : List Nat} (h3 : 3 ≤ n) (h7 : n ≤ 7) (hP : td_P n p) : ∃ t, t < td_fac (n - 1) ∧ td_sp n t = p := by
  have h := td_pw n (by omega) h3
  exact td_spg_all (n - 1) (2 ^ n - 2) p (by have := hP.1; omega) hP.2.1 (fun x hx => by
    have := hP.2.2 x hx
    exact ⟨by omega, (td_pb n (by omega) h3 x (by omega)).mpr this⟩) h.1 h.2
theorem td_sp_lx {n r r' : Nat} (h3 : 3 ≤ n) (h7 : n ≤ 7) (h : r < r') (h' : r' < td_fac (n - 1)) : td_lx (td_sp n r) (td_sp n r') := by
  have q := td_pw n (by omega) h3
  exact td_spg_lx (n - 1) (2 ^ n - 2) r r' h h' q.1 q.2
end
section
/-! rules, costs, numbers -/
def td_len (aL : Nat → Int32) (a b : Nat) : Int := (aL (a * 7 + b)).toInt
def td_rl (aN : Nat → Int32) (e : Nat × Nat) : Int32 := aN (e.1 * 7 + e.2)
/-- the tour 0, p has every required link and no barred one -/
def td_Cons (n : Nat) (aN : Nat → Int32) (p : List Nat) : Prop := (∀ e, e ∈ td_T p → td_rl aN e ≠ 2) ∧ (∀ a b, a < b → b < n → aN (a * 7 + b) = 1 → (a, b) ∈ td_T p)
def td_cost (aL : Nat → Int32) (p : List Nat) : Int := td_sum (td_len aL) (td_T p)
def td_LOK (aL : Nat → Int32) : Prop := ∀ a b, a < 7 → b < 7 → 0 ≤ (aL (a * 7 + b)).toInt ∧ (aL (a * 7 + b)).toInt ≤ 99 ∧ aL (a * 7 + b) = aL (b * 7 + a)
def td_ROK (aN : Nat → Int32) : Prop := ∀ a b, a < 7 → b < 7 → (aN (a * 7 + b) = 0 ∨ aN (a * 7 + b) = 1 ∨ aN (a * 7 + b) = 2) ∧ aN (a * 7 + b) = aN (b * 7 + a)
/-- r is the least cost of a tour with C, or -1 -/
def td_Min (n : Nat) (aL : Nat → Int32) (C : List Nat → Prop) (r : Int32) : Prop :=
  (r = -1 ∧ ∀ p, td_P n p → ¬ C p) ∨ (∃ p, td_P n p ∧ C p ∧ r.toInt = td_cost aL p ∧ ∀ p', td_P n p' → C p' → td_cost aL p ≤ td_cost aL p')

theorem td_cost_rng {n : Nat} {aL : Nat → Int32} {p : List Nat} (h3 : 3 ≤ n) (h7 : n ≤ 7) (hL : td_LOK aL) (hP : td_P n p) : 0 ≤ td_cost aL p ∧ td_cost aL p ≤ 693 := by
  have h1 := td_sum_mono (w := fun _ _ => 0) (w' := td_len aL) (td_T p) (fun e he => by
    have := td_T_mem h3 hP he
    exact (hL e.1 e.2 (by omega) (by omega)).1)
  have h2 := td_sum_mono (w := td_len aL) (w' := fun _ _ => 99) (td_T p) (fun e he => by
    have := td_T_mem h3 hP he
    exact (hL e.1 e.2 (by omega) (by omega)).2.1)
  rw [td_sum_const] at h1 h2
  rw [td_T_len hP] at h2
  unfold td_cost
  omega

theorem td_Min_uniq {n : Nat} {aL : Nat → Int32} {C : List Nat → Prop} {r r' : Int32} (h : td_Min n aL C r) (h' : td_Min n aL C r') : r = r' := by
  rcases h with ⟨h1, h2⟩ | ⟨p, h1, h2, h3, h4⟩
  · rcases h' with ⟨k1, k2⟩ | ⟨q, k1, k2, k3, k4⟩
    · rw [h1, k1]
    · exact absurd k2 (h2 q k1)
  · rcases h' with ⟨k1, k2⟩ | ⟨q, k1, k2, k3, k4⟩
    · exact absurd h2 (k2 p h1)
    · have a := h4 q k1 k2
      have b := k4 p h1 h2
      exact Int32.toInt_inj.mp (by omega)
theorem td_Min_congr {n : Nat} {aL : Nat → Int32} {C C' : List Nat → Prop} {r : Int32} (hC : ∀ p, td_P n p → (C p ↔ C' p)) (h : td_Min n aL C r) : td_Min n aL C' r := by
  rcases h with ⟨h1, h2⟩ | ⟨p, h1, h2, h3, h4⟩
  · exact Or.inl ⟨h1, fun p hp hc => h2 p hp ((hC p hp).mpr hc)⟩
  · exact Or.inr ⟨p, h1, (hC p h1).mp h2, h3, fun q hq hc => h4 q hq ((hC q hq).mpr hc)⟩
theorem td_Min_neg {n : Nat} {aL : Nat → Int32} {C : List Nat → Prop} {r : Int32} (h3 : 3 ≤ n) (h7 : n ≤ 7) (hL : td_LOK aL) (h : td_Min n aL C r) : (r < 0 → r = -1 ∧ ∀ p, td_P n p → ¬ C p) ∧ (¬ r < 0 → ∃ p, td_P n p ∧ C p ∧ r.toInt = td_cost aL p ∧ ∀ p', td_P n p' → C p' → td_cost aL p ≤ td_cost aL p') := by
  rcases h with h | ⟨p, h1, h2, h4, h5⟩
  · refine ⟨fun _ => h, fun q => absurd ?_ q⟩
    rw [h.1]; decide
  · refine ⟨fun q => ?_, fun _ => ⟨p, h1, h2, h4, h5⟩⟩
    have a := td_cost_rng h3 h7 hL h1
    rw [Int32.lt_iff_toInt_lt, Int32.toInt_zero] at q
    omega
theorem td_Min_le {n : Nat} {aL : Nat → Int32} {C : List Nat → Prop} {r : Int32} (h3 : 3 ≤ n) (h7 : n ≤ 7) (hL : td_LOK aL) (h : td_Min n aL C r) : -1 ≤ r.toInt ∧ r.toInt ≤ 693 := by
  rcases h with h | ⟨p, h1, h2, h4, h5⟩
  · rw [h.1]; decide
  · have a := td_cost_rng h3 h7 hL h1
    omega

/-- the weight of a link: its length and its cities' penalties -/
def tx_w (aL aP : Nat → Int32) (a b : Nat) : Int := td_len aL a b + (aP a).toInt + (aP b).toInt
theorem tx_wsum {n : Nat} {aL aP : Nat → Int32} {E : List (Nat × Nat)} (he : ∀ e, e ∈ E → e.1 < n ∧ e.2 < n) (hd : ∀ x, x < n → td_deg E x = 2) :
    td_sum (tx_w aL aP) E = td_sum (td_len aL) E + 2 * td_S (fun x => (aP x).toInt) n := by
  have h := td_S_deg (td_len aL) (fun x => (aP x).toInt) n E he
  have h2 : td_S (fun x => (td_deg E x : Int) * (aP x).toInt) n = td_S (fun x => 2 * (fun x => (aP x).toInt) x) n := td_S_congr n (fun x hx => by rw [hd x hx]; rfl)
  rw [h2, td_S_two] at h
  exact h
theorem tx_wT {n : Nat} {aL aP : Nat → Int32} {p : List Nat} (hn : 3 ≤ n) (hP : td_P n p) : td_sum (tx_w aL aP) (td_T p) = td_cost aL p + 2 * td_S (fun x => (aP x).toInt) n :=
  tx_wsum (fun e he => ⟨by have := td_T_mem hn hP he; omega, (td_T_mem hn hP he).2⟩) (fun x hx => td_T_deg hP x hx)

/-! numbers -/
theorem tx_ix (a b : Nat) : nI a * 7 + nI b = nI (a * 7 + b) := by
  rw [show (7 : Int32) = nI 7 from rfl, pk_mul, nI_add]
theorem tx_nb0 : ∀ k, k < 128 → (nI k).toInt8.toInt32 = nI k := by decide +kernel
theorem tx_nb {k : Nat} (h : k < 128) : vp_nar .byte (nI k).toInt8.toInt32 = nI k := by rw [pk_vb, tx_nb0 k h]
theorem tx_nb' {k : Nat} (h : k < 128) : vp_nar .byte (nI k) = nI k := by rw [vp_nar_byte, tx_nb0 k h]
theorem tx_b1 : vp_nar .boolean 1 = 1 := rfl
theorem tx_b0 : vp_nar .boolean 0 = 0 := rfl
theorem tx_c {k : Nat} (h : k < 1000) : (nI k).toNatClampNeg = k := nI_clamp (by omega)
theorem tx_in {k N : Nat} (h : k < N) (hN : N ≤ 49) : vp_in (nI k) N := vp_in_nI h (by omega)
theorem tx_cl0 : (0 : Int32).toNatClampNeg = 0 := rfl
theorem tx_of {x : Int32} (h0 : 0 ≤ x.toInt) {m : Nat} (h : x.toInt ≤ m) : ∃ k, k ≤ m ∧ x = nI k := by
  have h1 : ¬ x < 0 := by rw [Int32.lt_iff_toInt_lt, Int32.toInt_zero]; omega
  obtain ⟨j, hj, e⟩ := nI_of h1
  refine ⟨j, ?_, e⟩
  rw [e, nI_toInt hj] at h
  omega
theorem tx_S_bd {P : Nat → Int} {B : Int} : ∀ n : Nat, (∀ x, x < n → -B ≤ P x ∧ P x ≤ B) → -(B * n) ≤ td_S P n ∧ td_S P n ≤ B * n
  | 0, _ => by simp [td_S]
  | n + 1, h => by
    have h1 := tx_S_bd n (fun x hx => h x (by omega))
    have h2 := h n (by omega)
    have h3 : td_S P (n + 1) = td_S P n + P n := rfl
    have h4 : B * ((n + 1 : Nat) : Int) = B * n + B := by rw [Int.natCast_add]; grind
    omega
theorem tx_sum_bd {w : Nat → Nat → Int} {B : Int} : ∀ E : List (Nat × Nat), (∀ e, e ∈ E → -B ≤ w e.1 e.2 ∧ w e.1 e.2 ≤ B) → -(B * E.length) ≤ td_sum w E ∧ td_sum w E ≤ B * E.length
  | [], _ => by simp [td_sum]
  | e :: E, h => by
    have h1 := tx_sum_bd E (fun f hf => h f (List.mem_cons_of_mem _ hf))
    have h2 := h e List.mem_cons_self
    have h3 : td_sum w (e :: E) = w e.1 e.2 + td_sum w E := rfl
    have h4 : B * ((e :: E).length : Int) = B * E.length + B := by rw [List.length_cons, Int.natCast_add]; grind
    omega
theorem td_deg_le : ∀ (E : List (Nat × Nat)) (x : Nat), td_deg E x ≤ 2 * E.length
  | [], _ => Nat.le_refl _
  | e :: E, x => by
    have h1 := td_deg_le E x
    show td_deg E x + (if e.1 = x then 1 else 0) + (if e.2 = x then 1 else 0) ≤ 2 * (E.length + 1)
    split <;> split <;> omega
/-- penalties within -/
def tx_PB (n : Nat) (aP : Nat → Int32) (B : Int) : Prop := ∀ x, x < n → -B ≤ (aP x).toInt ∧ (aP x).toInt ≤ B
theorem tx_wI {n a b : Nat} {aL aP : Nat → Int32} (h7 : n ≤ 7) (hL : td_LOK aL) (hB : tx_PB n aP 40000) (ha : a < n) (hb : b < n) : (aL (a * 7 + b) + aP a + aP b).toInt = tx_w aL aP a b ∧ -100000 ≤ tx_w aL aP a b ∧ tx_w aL aP a b ≤ 100000 := by
  have h1 := hL a b (by omega) (by omega)
  have h2 := hB a ha
  have h3 := hB b hb
  have e : aL (a * 7 + b) + aP a + aP b = Int32.ofInt (tx_w aL aP a b) := by
    unfold tx_w td_len
    rw [Int32.ofInt_add, Int32.ofInt_add, Int32.ofInt_toInt, Int32.ofInt_toInt, Int32.ofInt_toInt]
  have h4 : -100000 ≤ tx_w aL aP a b ∧ tx_w aL aP a b ≤ 100000 := by
    unfold tx_w td_len
    omega
  refine ⟨?_, h4⟩
  rw [e, Int32.toInt_ofInt_of_le (by omega) (by omega)]
end
section
/-! X: the tree's small methods -/
section
variable {ft fl fk fo : Int32} {aL aR aN aP aG aD aC aB aV aT : Nat → Int32}

theorem wx_weight {post : Int32 → Prop} {fc : Int32} {a b : Nat} (ha : a < 7) (hb : b < 7) (K : post (aL (a * 7 + b) + aP a + aP b)) : wpX_weight post (fc, ft, fl, fk, fo, aL, aR, aN, aP, aG, aD, aC, aB, aV, aT) (nI a) (nI b) := by
  unfold wpX_weight
  dsimp only
  rw [tx_ix, tx_c (by omega), tx_c (by omega), tx_c (by omega)]
  exact ⟨tx_in (by omega) (by omega), tx_in ha (by omega), tx_in hb (by omega), K⟩

theorem wx_merge {post : SX → Prop} {n ka kb : Nat} {g : Nat → Nat} (h7 : n ≤ 7) (hka : ka < 7) (hkb : kb < 7) (hg : ∀ x, x < n → g x < 7 ∧ aG x = nI (g x))
    (K : ∀ aG', (∀ x, x < n → aG' x = nI (if g x = kb then ka else g x)) → post (nI n, ft, fl, fk, fo, aL, aR, aN, aP, aG', aD, aC, aB, aV, aT)) : wpX_merge post (nI n, ft, fl, fk, fo, aL, aR, aN, aP, aG, aD, aC, aB, aV, aT) (nI ka) (nI kb) := by
  show ∃ n2, wX_merge_2 post (nI ka) (nI kb) (nI n) ft fl fk fo n2 (nI 0) aL aR aN aP aG aD aC aB aV aT
  refine pk_loop (fun k i s => wX_merge_2 post (nI ka) (nI kb) (nI n) ft fl fk fo k (nI i) aL aR aN aP s aD aC aB aV aT) (fun i s => ∀ x, x < n → s x = nI (if x < i ∧ g x = kb then ka else g x)) n 0 aG (Nat.zero_le _) ?_ ?_ ?_
  · intro x hx
    rw [if_neg (by omega)]; exact (hg x hx).2
  · intro k s hI
    refine br_t (nI_le (Nat.le_refl _) (by omega)) (K s ?_)
    intro x hx
    rw [hI x hx]; simp only [hx, true_and]
  · intro k i s hi hI ih
    have hc := tx_c (k := i) (by omega)
    have hs : s (nI i).toNatClampNeg = nI (g i) := by rw [hc, hI i hi, if_neg (by omega)]
    refine br_f (nI_ge hi (by omega)) ⟨tx_in (by omega) (by omega), ?_⟩
    by_cases q : g i = kb
    · refine br_t (by rw [hs, q]) ⟨tx_in (by omega) (by omega), nm_e (nm_r (nI_1 i) (ih _ ?_))⟩
      intro x hx
      rw [hc, tx_nb (by omega)]
      by_cases e : x = i
      · subst e
        rw [pk_us, if_pos ⟨by omega, q⟩]
      · rw [pk_un e, hI x hx]
        have : x < i ↔ x < i + 1 := by omega
        simp only [this]
    · refine br_f (by rw [hs, nI_eq (by have := (hg i hi).1; omega) (by omega)]; exact q) (nm_r (nI_1 i) (ih _ ?_))
      intro x hx
      rw [hI x hx]
      by_cases e : x = i
      · subst e
        rw [if_neg (by omega), if_neg (fun z => q z.2)]
      · have : x < i ↔ x < i + 1 := by omega
        simp only [this]

/-- what the tree's arrays hold when the links of E were taken -/
def tx_Rep (n : Nat) (aL aP : Nat → Int32) (E : List (Nat × Nat)) (ft : Int32) (aG aD aC : Nat → Int32) : Prop :=
  (∀ e, e ∈ E → e.1 < e.2 ∧ e.2 < n) ∧ (∀ x, x < n → aG x = nI (td_grp E x)) ∧ (∀ x, x < n → aD x = nI (td_deg E x)) ∧ (∀ a b, a < 7 → b < 7 → aC (a * 7 + b) = if td_nm a b ∈ E then 1 else 0) ∧ ft = Int32.ofInt (td_sum (tx_w aL aP) E)

theorem tx_grp7 {n : Nat} {E : List (Nat × Nat)} (h7 : n ≤ 7) (hE : ∀ e, e ∈ E → e.1 < e.2 ∧ e.2 < n) {x : Nat} (hx : x < n) : td_grp E x < 7 := by
  have := td_grp_lt n E (fun e he => by have := hE e he; omega) x hx
  omega

theorem tx_nm_ab {a b x y : Nat} (hab : a < b) : td_nm x y = (a, b) ↔ ((x = a ∧ y = b) ∨ (x = b ∧ y = a)) := by
  unfold td_nm
  split
  · simp only [Prod.mk.injEq]; omega
  · simp only [Prod.mk.injEq]; omega

theorem tx_chosen {a b : Nat} {E : List (Nat × Nat)} (hab : a < b) (hb : b < 7) (hC : ∀ a b, a < 7 → b < 7 → aC (a * 7 + b) = if td_nm a b ∈ E then 1 else 0) :
    ∀ x y, x < 7 → y < 7 → upd (upd aC (a * 7 + b) 1) (b * 7 + a) 1 (x * 7 + y) = if td_nm x y ∈ (a, b) :: E then 1 else 0 := by
  intro x y hx hy
  by_cases q : (x = a ∧ y = b) ∨ (x = b ∧ y = a)
  · rw [if_pos (by rw [List.mem_cons, tx_nm_ab hab]; exact Or.inl q)]
    by_cases r : x * 7 + y = b * 7 + a
    · rw [r, pk_us]
    · rw [pk_un r, show x * 7 + y = a * 7 + b by omega, pk_us]
  · rw [pk_un (by omega), pk_un (by omega), hC x y hx hy]
    have : td_nm x y ∈ (a, b) :: E ↔ td_nm x y ∈ E := by
      rw [List.mem_cons, tx_nm_ab hab]
      exact ⟨fun z => z.resolve_left q, Or.inr⟩
    simp only [this]

theorem wx_take {post : SX → Prop} {n a b : Nat} {E : List (Nat × Nat)} (h7 : n ≤ 7) (hab : a < b) (hb : b < n) (hl : E.length ≤ 40) (hR : tx_Rep n aL aP E ft aG aD aC)
    (K : ∀ ft' aG' aD' aC', tx_Rep n aL aP ((a, b) :: E) ft' aG' aD' aC' → post (nI n, ft', fl, fk, fo, aL, aR, aN, aP, aG', aD', aC', aB, aV, aT)) : wpX_take post (nI n, ft, fl, fk, fo, aL, aR, aN, aP, aG, aD, aC, aB, aV, aT) (nI a) (nI b) := by
  obtain ⟨hE, hG, hD, hC, hT⟩ := hR
  have ca := tx_c (k := a) (by omega)
  have cb := tx_c (k := b) (by omega)
  have cab := tx_c (k := a * 7 + b) (by omega)
  have cba := tx_c (k := b * 7 + a) (by omega)
  have da := td_deg_le E a
  have db := td_deg_le E b
  have d1 : vp_nar .byte ((aD a + 1).toInt8.toInt32) = nI (td_deg E a + 1) := by rw [hD a (by omega), nI_1, tx_nb (by omega)]
  have d2 : vp_nar .byte ((upd aD a (nI (td_deg E a + 1)) b + 1).toInt8.toInt32) = nI (td_deg E b + 1) := by rw [pk_un (by omega), hD b hb, nI_1, tx_nb (by omega)]
  have hE' : ∀ e, e ∈ (a, b) :: E → e.1 < e.2 ∧ e.2 < n := by
    intro e he
    rcases List.mem_cons.mp he with he | he
    · rw [he]; exact ⟨hab, hb⟩
    · exact hE e he
  have hC' := tx_chosen (aC := aC) hab (by omega) hC
  have hD' : ∀ x, x < n → upd (upd aD a (nI (td_deg E a + 1))) b (nI (td_deg E b + 1)) x = nI (td_deg ((a, b) :: E) x) := by
    intro x hx
    show _ = nI (td_deg E x + (if a = x then 1 else 0) + (if b = x then 1 else 0))
    by_cases q : x = b
    · subst q
      rw [pk_us, if_neg (by omega), if_pos rfl]
    · rw [pk_un q]
      by_cases r : x = a
      · subst r
        rw [pk_us, if_pos rfl, if_neg (by omega)]
      · rw [pk_un r, hD x hx, if_neg (by omega), if_neg (by omega)]; rfl
  have hT' : ft + (aL (a * 7 + b) + aP a + aP b) = Int32.ofInt (td_sum (tx_w aL aP) ((a, b) :: E)) := by
    show _ = Int32.ofInt (td_len aL a b + (aP a).toInt + (aP b).toInt + td_sum (tx_w aL aP) E)
    unfold td_len
    rw [Int32.ofInt_add, Int32.ofInt_add, Int32.ofInt_add, Int32.ofInt_toInt, Int32.ofInt_toInt, Int32.ofInt_toInt, ← hT]
    exact Int32.add_comm _ _
  unfold wpX_take
  dsimp only
  simp only [forall_eq, tx_ix, ca, cb, cab, cba, tx_b1, d1, d2]
  refine ⟨tx_in (by omega) (by omega), tx_in (by omega) (by omega), tx_in (by omega) (by omega), tx_in (by omega) (by omega), tx_in (by omega) (by omega), tx_in (by omega) (by omega), wx_weight (by omega) (by omega) ?_⟩
  by_cases q : a = 0
  · refine br_t (by rw [q]; rfl) (K _ _ _ _ ⟨hE', ?_, hD', hC', hT'⟩)
    intro x hx
    rw [hG x hx]
    show _ = nI ((if a = 0 then td_grp E else td_mg (td_grp E) a b) x)
    rw [if_pos q]
  · refine br_f (nI_ne0 (by omega) (by omega)) (br_f (nI_ne0 (by omega) (by omega)) ⟨tx_in (by omega) (by omega), tx_in (by omega) (by omega), ?_⟩)
    rw [hG a (by omega), hG b hb]
    refine wx_merge (g := td_grp E) h7 (tx_grp7 h7 hE (by omega)) (tx_grp7 h7 hE hb) (fun x hx => ⟨tx_grp7 h7 hE hx, hG x hx⟩) ?_
    intro aG' hG'
    refine K _ _ _ _ ⟨hE', ?_, hD', hC', hT'⟩
    intro x hx
    show aG' x = _
    rw [hG' x hx]
    show _ = nI ((if a = 0 then td_grp E else td_mg (td_grp E) a b) x)
    rw [if_neg q]
    rfl

theorem wx_takeOne {post : Int32 → SX → Prop} {n a b : Nat} {E : List (Nat × Nat)} (h7 : n ≤ 7) (hab : a < b) (hb : b < n) (hl : E.length ≤ 40) (hR : tx_Rep n aL aP E ft aG aD aC)
    (K0 : (2 ≤ td_deg E a ∨ 2 ≤ td_deg E b ∨ (a ≠ 0 ∧ td_grp E a = td_grp E b)) → post 0 (nI n, ft, fl, fk, fo, aL, aR, aN, aP, aG, aD, aC, aB, aV, aT))
    (K1 : td_deg E a < 2 → td_deg E b < 2 → ∀ ft' aG' aD' aC', tx_Rep n aL aP ((a, b) :: E) ft' aG' aD' aC' → post 1 (nI n, ft', fl, fk, fo, aL, aR, aN, aP, aG', aD', aC', aB, aV, aT)) : wpX_takeOne post (nI n, ft, fl, fk, fo, aL, aR, aN, aP, aG, aD, aC, aB, aV, aT) (nI a) (nI b) := by
  have hR' := hR
  obtain ⟨hE, hG, hD, hC, hT⟩ := hR
  have ca := tx_c (k := a) (by omega)
  have cb := tx_c (k := b) (by omega)
  have da := td_deg_le E a
  have db := td_deg_le E b
  have ga := tx_grp7 h7 hE (x := a) (by omega)
  have gb := tx_grp7 h7 hE hb
  unfold wpX_takeOne
  dsimp only
  rw [ca, cb, hD a (by omega), hD b hb, hG a (by omega), hG b hb]
  refine ⟨tx_in (by omega) (by omega), pk_le 2 (td_deg E a) (fun h => K0 (Or.inl h)) (fun h => ⟨tx_in (by omega) (by omega), pk_lt (td_deg E b) 2 (fun h' => ?_) (fun h' => K0 (Or.inr (Or.inl h')))⟩)⟩
  have hT : wX_takeOne_43 post (nI a) (nI b) (nI n) ft fl fk fo aL aR aN aP aG aD aC aB aV aT := by
    unfold wX_takeOne_43
    exact wx_take h7 hab hb hl hR' (fun ft' aG' aD' aC' hR => K1 h h' ft' aG' aD' aC' hR)
  by_cases q : a = 0
  · exact br_t (by rw [q]; rfl) hT
  · exact br_f (nI_ne0 (by omega) (by omega)) ⟨tx_in (by omega) (by omega), tx_in (by omega) (by omega), pk_eq (td_grp E a) (td_grp E b) (fun h => K0 (Or.inr (Or.inr ⟨q, h⟩))) (fun _ => hT)⟩
end
end
section
/-! X: the tree with one extra link -/
section
variable {ft fl fk fo : Int32} {aL aR aN aP aG aD aC aB aV aT : Nat → Int32}

def td_vis (i j : Nat) (e : Nat × Nat) : Prop := e.1 < i ∨ (e.1 = i ∧ e.2 < j)
def tx_RI (n : Nat) (aN : Nat → Int32) (i j : Nat) (E : List (Nat × Nat)) : Prop :=
  E.Nodup ∧ (∀ e, e ∈ E → td_rl aN e = 1 ∧ td_vis i j e) ∧ (∀ a b, a < b → b < n → aN (a * 7 + b) = 1 → td_vis i j (a, b) → (a, b) ∈ E) ∧ (∀ x, td_deg E x ≤ 2)
theorem tx_len7 {n : Nat} {E : List (Nat × Nat)} (hE : ∀ e, e ∈ E → e.1 < e.2 ∧ e.2 < n) (hd : ∀ x, td_deg E x ≤ 2) : E.length ≤ n := by
  have h1 := td_hand n E (fun e h => ⟨by have := hE e h; omega, (hE e h).2⟩)
  have h2 := td_S_le2 (f := fun x => (td_deg E x : Int)) n (fun x _ => by have := hd x; omega)
  omega
theorem tx_RI_next {n i : Nat} {E : List (Nat × Nat)} (hE : ∀ e, e ∈ E → e.1 < e.2 ∧ e.2 < n) (h : tx_RI n aN i n E) : tx_RI n aN (i + 1) (i + 2) E := by
  obtain ⟨h1, h2, h3, h4⟩ := h
  refine ⟨h1, fun e he => ⟨(h2 e he).1, ?_⟩, fun a b ab bn hr hv => h3 a b ab bn hr ?_, h4⟩
  · have := (h2 e he).2
    unfold td_vis at this ⊢
    omega
  · unfold td_vis at hv ⊢
    dsimp only at hv ⊢
    omega

theorem wx_takeRequired {post : Int32 → SX → Prop} {n : Nat} (h3 : 3 ≤ n) (h7 : n ≤ 7) (hR : tx_Rep n aL aP [] ft aG aD aC)
    (K0 : (∀ p, td_P n p → ¬ td_Cons n aN p) → ∀ ft' aG' aD' aC', post 0 (nI n, ft', fl, fk, fo, aL, aR, aN, aP, aG', aD', aC', aB, aV, aT))
    (K1 : ∀ E ft' aG' aD' aC', tx_Rep n aL aP E ft' aG' aD' aC' → E.Nodup → (∀ e, e ∈ E → td_rl aN e = 1) → (∀ a b, a < b → b < n → aN (a * 7 + b) = 1 → (a, b) ∈ E) → (∀ x, td_deg E x ≤ 2) → post 1 (nI n, ft', fl, fk, fo, aL, aR, aN, aP, aG', aD', aC', aB, aV, aT)) :
    wpX_takeRequired post (nI n, ft, fl, fk, fo, aL, aR, aN, aP, aG, aD, aC, aB, aV, aT) := by
  show ∃ n2, wX_takeRequired_2 post n2 (nI 0) (nI n) ft fl fk fo aL aR aN aP aG aD aC aB aV aT
  refine pk_loop (σ := Int32 × (Nat → Int32) × (Nat → Int32) × (Nat → Int32)) (fun k i s => wX_takeRequired_2 post k (nI i) (nI n) s.1 fl fk fo aL aR aN aP s.2.1 s.2.2.1 s.2.2.2 aB aV aT)
    (fun i s => ∃ E, tx_Rep n aL aP E s.1 s.2.1 s.2.2.1 s.2.2.2 ∧ tx_RI n aN i (i + 1) E) n 0 (ft, aG, aD, aC) (Nat.zero_le _) ?_ ?_ ?_
  · refine ⟨[], hR, List.nodup_nil, fun e he => absurd he (by simp), fun a b ab bn _ hv => ?_, fun x => Nat.zero_le _⟩
    unfold td_vis at hv
    dsimp only at hv
    omega
  · intro k s ⟨E, hR, h1, h2, h4, h5⟩
    refine br_t (nI_le (Nat.le_refl _) (by omega)) (K1 E _ _ _ _ hR h1 (fun e he => (h2 e he).1) (fun a b ab bn hr => h4 a b ab bn hr ?_) h5)
    unfold td_vis
    dsimp only
    omega
  · intro k i s hi ⟨E, hR, hI⟩ ih
    refine br_f (nI_ge hi (by omega)) (nm_r (nI_1 i) ?_)
    refine pk_loop (σ := Int32 × (Nat → Int32) × (Nat → Int32) × (Nat → Int32)) (fun k' j s => wX_takeRequired_14 post (wX_takeRequired_2 post k) (nI i) k' (nI j) (nI n) s.1 fl fk fo aL aR aN aP s.2.1 s.2.2.1 s.2.2.2 aB aV aT)
      (fun j s => i < j ∧ ∃ E, tx_Rep n aL aP E s.1 s.2.1 s.2.2.1 s.2.2.2 ∧ tx_RI n aN i j E) n (i + 1) s (by omega) ⟨by omega, E, hR, hI⟩ ?_ ?_
    · intro k' s ⟨_, E, hR, hI⟩
      exact br_t (nI_le (Nat.le_refl _) (by omega)) (nm_r (nI_1 i) (ih _ ⟨E, hR, tx_RI_next hR.1 hI⟩))
    · intro k' j s hj ⟨hij, E, hR, h1, h2, h4, h5⟩ ih'
      have hlen := tx_len7 hR.1 h5
      refine br_f (nI_ge hj (by omega)) ?_
      rw [tx_ix, tx_c (by omega)]
      refine ⟨tx_in (by omega) (by omega), br_c (fun hr => ?_) (fun hr => nm_r (nI_1 j) (ih' _ ⟨by omega, E, hR, h1, fun e he => ⟨(h2 e he).1, ?_⟩, fun a b ab bn hr' hv => ?_, h5⟩))⟩
      · have hne : (i, j) ∉ E := fun q => by
          have := (h2 _ q).2
          unfold td_vis at this
          dsimp only at this
          omega
        refine wx_takeOne h7 hij hj (by omega) hR (fun hbad => ?_) (fun da db ft' aG' aD' aC' hR' => ?_)
        · refine br_t rfl (K0 (fun p hP hc => ?_) _ _ _ _)
          have hin : (i, j) ∈ td_T p := hc.2 i j hij hj hr
          have := td_can h3 hP h1 (fun e he => by
            have q := hR.1 e he
            exact hc.2 e.1 e.2 q.1 q.2 (h2 e he).1) hin hne
          rcases hbad with q | q | q
          · omega
          · omega
          · exact this.2.2 q.1 q.2
        · refine br_f (by decide) (nm_r (nI_1 j) (ih' (ft', aG', aD', aC') ⟨by omega, (i, j) :: E, hR', List.nodup_cons.mpr ⟨hne, h1⟩, fun e he => ?_, fun a b ab bn hr' hv => ?_, fun x => ?_⟩))
          · rcases List.mem_cons.mp he with he | he
            · rw [he]; exact ⟨hr, Or.inr ⟨rfl, Nat.lt_succ_self _⟩⟩
            · have := (h2 e he).2
              refine ⟨(h2 e he).1, ?_⟩
              unfold td_vis at this ⊢
              omega
          · by_cases q : a = i ∧ b = j
            · rw [q.1, q.2]; exact List.mem_cons_self
            · refine List.mem_cons_of_mem _ (h4 a b ab bn hr' ?_)
              unfold td_vis at hv ⊢
              dsimp only at hv ⊢
              omega
          · have := h5 x
            show td_deg E x + (if i = x then 1 else 0) + (if j = x then 1 else 0) ≤ 2
            by_cases q : i = x
            · subst q
              rw [if_pos rfl, if_neg (by omega)]; omega
            · rw [if_neg q]
              by_cases r : j = x
              · subst r
                rw [if_pos rfl]; omega
              · rw [if_neg r]; omega
      · have := (h2 e he).2
        unfold td_vis at this ⊢
        omega
      · by_cases q : a = i ∧ b = j
        · rw [q.1, q.2] at hr'
          exact absurd hr' hr
        · refine h4 a b ab bn hr' ?_
          unfold td_vis at hv ⊢
          dsimp only at hv ⊢
          omega

/-- a link that may join two groups -/
def tx_Cd (n : Nat) (aN : Nat → Int32) (E : List (Nat × Nat)) (e : Nat × Nat) : Prop := 1 ≤ e.1 ∧ e.1 < e.2 ∧ e.2 < n ∧ td_rl aN e = 0 ∧ td_grp E e.1 ≠ td_grp E e.2
/-- the cheapest so far -/
def tx_CI (n : Nat) (aL aN aP : Nat → Int32) (E : List (Nat × Nat)) (i j : Nat) (x1 x2 : Int32) : Prop :=
  (x1 = -1 ∧ ∀ e, tx_Cd n aN E e → ¬ td_vis i j e) ∨ (∃ a b, tx_Cd n aN E (a, b) ∧ x1 = nI (a * 7 + b) ∧ x2.toInt = tx_w aL aP a b ∧ ∀ e, tx_Cd n aN E e → td_vis i j e → tx_w aL aP a b ≤ tx_w aL aP e.1 e.2)

theorem wx_cheapestJoin {post : Int32 → Prop} {n : Nat} {E : List (Nat × Nat)} (h3 : 3 ≤ n) (h7 : n ≤ 7) (hL : td_LOK aL) (hB : tx_PB n aP 40000) (hR : tx_Rep n aL aP E ft aG aD aC)
    (K0 : (∀ e, ¬ tx_Cd n aN E e) → post (-1))
    (K1 : ∀ a b, tx_Cd n aN E (a, b) → (∀ e, tx_Cd n aN E e → tx_w aL aP a b ≤ tx_w aL aP e.1 e.2) → post (nI (a * 7 + b))) :
    wpX_cheapestJoin post (nI n, ft, fl, fk, fo, aL, aR, aN, aP, aG, aD, aC, aB, aV, aT) := by
  obtain ⟨hE, hG, _, _, _⟩ := hR
  show ∃ n6, wX_cheapestJoin_6 post (nI n) ft fl fk fo aL aR aN aP aG aD aC aB aV aT n6 (-1) 0 (nI 1)
  refine pk_loop (σ := Int32 × Int32) (fun k i s => wX_cheapestJoin_6 post (nI n) ft fl fk fo aL aR aN aP aG aD aC aB aV aT k s.1 s.2 (nI i))
    (fun i s => 1 ≤ i ∧ tx_CI n aL aN aP E i (i + 1) s.1 s.2) n 1 (-1, 0) (by omega) ⟨by omega, Or.inl ⟨rfl, fun e he hv => ?_⟩⟩ ?_ ?_
  · obtain ⟨e1, e2, _⟩ := he
    unfold td_vis at hv
    omega
  · intro k s ⟨_, hI⟩
    refine br_t (nI_le (Nat.le_refl _) (by omega)) ?_
    rcases hI with ⟨h1, h2⟩ | ⟨a, b, h1, h2, h4, h5⟩
    · rw [h1]
      exact K0 (fun e he => h2 e he (by
        obtain ⟨e1, e2, e4, _⟩ := he
        unfold td_vis
        omega))
    · rw [h2]
      exact K1 a b h1 (fun e he => h5 e he (by
        obtain ⟨e1, e2, e4, _⟩ := he
        unfold td_vis
        omega))
  · intro k i s hi ⟨h1, hI⟩ ih
    refine br_f (nI_ge hi (by omega)) (nm_r (nI_1 i) ?_)
    refine pk_loop (σ := Int32 × Int32) (fun k' j s => wX_cheapestJoin_19 post (wX_cheapestJoin_6 post (nI n) ft fl fk fo aL aR aN aP aG aD aC aB aV aT k) (nI i) (nI n) ft fl fk fo aL aR aN aP aG aD aC aB aV aT k' s.1 s.2 (nI j))
      (fun j s => i < j ∧ tx_CI n aL aN aP E i j s.1 s.2) n (i + 1) s (by omega) ⟨by omega, hI⟩ ?_ ?_
    · intro k' s ⟨_, hI⟩
      refine br_t (nI_le (Nat.le_refl _) (by omega)) (nm_r (nI_1 i) (ih s ⟨by omega, ?_⟩))
      rcases hI with ⟨g1, g2⟩ | ⟨a, b, g1, g2, g4, g5⟩
      · refine Or.inl ⟨g1, fun e he hv => g2 e he ?_⟩
        obtain ⟨e1, e2, e4, _⟩ := he
        unfold td_vis at hv ⊢
        omega
      · refine Or.inr ⟨a, b, g1, g2, g4, fun e he hv => g5 e he ?_⟩
        obtain ⟨e1, e2, e4, _⟩ := he
        unfold td_vis at hv ⊢
        omega
    · intro k' j s hj ⟨hij, hI⟩ ih'
      have hw := tx_wI h7 hL hB hi hj
      -- the step that leaves the cheapest as it was
      have keep : (¬ tx_Cd n aN E (i, j) ∨ ∃ a b, tx_Cd n aN E (a, b) ∧ s.1 = nI (a * 7 + b) ∧ s.2.toInt = tx_w aL aP a b ∧ tx_w aL aP a b ≤ tx_w aL aP i j ∧ ∀ e, tx_Cd n aN E e → td_vis i j e → tx_w aL aP a b ≤ tx_w aL aP e.1 e.2) → tx_CI n aL aN aP E i (j + 1) s.1 s.2 := by
        intro hk
        rcases hk with hk | ⟨a, b, g1, g2, g4, g5, g6⟩
        · have hne : ∀ e, tx_Cd n aN E e → td_vis i (j + 1) e → td_vis i j e := by
            intro e he hv
            by_cases q : e = (i, j)
            · rw [q] at he; exact absurd he hk
            · have : ¬ (e.1 = i ∧ e.2 = j) := fun r => q (by rw [← r.1, ← r.2])
              unfold td_vis at hv ⊢
              omega
          rcases hI with ⟨g1, g2⟩ | ⟨a, b, g1, g2, g4, g5⟩
          · exact Or.inl ⟨g1, fun e he hv => g2 e he (hne e he hv)⟩
          · exact Or.inr ⟨a, b, g1, g2, g4, fun e he hv => g5 e he (hne e he hv)⟩
        · refine Or.inr ⟨a, b, g1, g2, g4, fun e he hv => ?_⟩
          by_cases q : e = (i, j)
          · rw [q]; exact g5
          · refine g6 e he ?_
            have : ¬ (e.1 = i ∧ e.2 = j) := fun r => q (by rw [← r.1, ← r.2])
            unfold td_vis at hv ⊢
            omega
      have take : tx_Cd n aN E (i, j) → (∀ e, tx_Cd n aN E e → td_vis i j e → tx_w aL aP i j ≤ tx_w aL aP e.1 e.2) → tx_CI n aL aN aP E i (j + 1) (nI (i * 7 + j)) (aL (i * 7 + j) + aP i + aP j) := by
        intro hc hm
        refine Or.inr ⟨i, j, hc, rfl, hw.1, fun e he hv => ?_⟩
        by_cases q : e = (i, j)
        · rw [q]; exact Int.le_refl _
        · refine hm e he ?_
          have : ¬ (e.1 = i ∧ e.2 = j) := fun r => q (by rw [← r.1, ← r.2])
          unfold td_vis at hv ⊢
          omega
      refine br_f (nI_ge hj (by omega)) (wx_weight (by omega) (by omega) ?_)
      rw [tx_ix, tx_c (by omega)]
      refine ⟨tx_in (by omega) (by omega), br_c (fun hr => ⟨tx_in (by omega) (by omega), tx_in (by omega) (by omega), ?_⟩) (fun hr => ?_)⟩
      · rw [tx_c (by omega), tx_c (by omega), hG i hi, hG j hj]
        have gi := tx_grp7 h7 hE hi
        have gj := tx_grp7 h7 hE hj
        refine pk_eq (td_grp E i) (td_grp E j) (fun q => ?_) (fun q => ?_)
        · unfold wX_cheapestJoin_72 wX_cheapestJoin_73
          exact br_t rfl (nm_r (nI_1 j) (ih' s ⟨by omega, keep (Or.inl (fun hc => hc.2.2.2.2 q))⟩))
        · have hcd : tx_Cd n aN E (i, j) := ⟨h1, hij, hj, hr, q⟩
          have hgo : tx_CI n aL aN aP E i (j + 1) (nI (i * 7 + j)) (aL (i * 7 + j) + aP i + aP j) → wX_cheapestJoin_90 post (wX_cheapestJoin_6 post (nI n) ft fl fk fo aL aR aN aP aG aD aC aB aV aT k) (wX_cheapestJoin_19 post (wX_cheapestJoin_6 post (nI n) ft fl fk fo aL aR aN aP aG aD aC aB aV aT k) (nI i) (nI n) ft fl fk fo aL aR aN aP aG aD aC aB aV aT k') (nI i) (nI j) (aL (i * 7 + j) + aP i + aP j) (nI n) ft fl fk fo aL aR aN aP aG aD aC aB aV aT := by
            intro hh
            unfold wX_cheapestJoin_90
            exact nm_r (tx_ix i j) (nm_r (nI_1 j) (ih' (_, _) ⟨by omega, hh⟩))
          unfold wX_cheapestJoin_73
          refine br_f (by decide) ?_
          rcases hI with ⟨g1, g2⟩ | ⟨a, b, g1, g2, g4, g5⟩
          · refine br_t (by rw [g1]; decide) (hgo (take hcd (fun e he hv => absurd hv (g2 e he))))
          · have g1' := g1
            obtain ⟨c1, c2, c4, _⟩ := g1'
            dsimp only at c1 c2 c4
            refine br_f (by rw [g2]; exact nI_pos (by omega)) (br_c (fun hle => ?_) (fun hle => ?_))
            · rw [Int32.le_iff_toInt_le, g4, hw.1] at hle
              exact nm_r (nI_1 j) (ih' s ⟨by omega, keep (Or.inr ⟨a, b, g1, g2, g4, hle, g5⟩)⟩)
            · rw [Int32.le_iff_toInt_le, g4, hw.1] at hle
              refine hgo (take hcd (fun e he hv => ?_))
              have := g5 e he hv
              omega
      · unfold wX_cheapestJoin_72 wX_cheapestJoin_73
        exact br_t rfl (nm_r (nI_1 j) (ih' s ⟨by omega, keep (Or.inl (fun hc => hr hc.2.2.2.1))⟩))

def tx_Jn (n : Nat) (E : List (Nat × Nat)) : Prop := ∀ x y, 1 ≤ x → x < n → 1 ≤ y → y < n → td_grp E x = td_grp E y
theorem wx_joined {post : Int32 → Prop} {n : Nat} {E : List (Nat × Nat)} (h3 : 3 ≤ n) (h7 : n ≤ 7) (hR : tx_Rep n aL aP E ft aG aD aC)
    (K0 : ¬ tx_Jn n E → post 0) (K1 : tx_Jn n E → post 1) : wpX_joined post (nI n, ft, fl, fk, fo, aL, aR, aN, aP, aG, aD, aC, aB, aV, aT) := by
  obtain ⟨hE, hG, _, _, _⟩ := hR
  show ∃ n2, wX_joined_2 post (nI n) ft fl fk fo aL aR aN aP aG aD aC aB aV aT n2 (nI 2)
  refine pk_loop (σ := Unit) (fun k i _ => wX_joined_2 post (nI n) ft fl fk fo aL aR aN aP aG aD aC aB aV aT k (nI i)) (fun i _ => 2 ≤ i ∧ ∀ x, 1 ≤ x → x < i → td_grp E x = td_grp E 1) n 2 () (by omega) ⟨by omega, fun x a b => by rw [show x = 1 by omega]⟩ ?_ ?_
  · intro k _ ⟨_, hI⟩
    exact br_t (nI_le (Nat.le_refl _) (by omega)) (K1 (fun x y a b c d => (hI x a b).trans (hI y c d).symm))
  · intro k i _ hi ⟨h2, hI⟩ ih
    refine br_f (nI_ge hi (by omega)) ?_
    rw [tx_c (by omega), hG i hi, hG 1 (by omega)]
    have gi := tx_grp7 h7 hE hi
    have gj := tx_grp7 h7 hE (x := 1) (by omega)
    refine ⟨tx_in (by omega) (by omega), pk_eq (td_grp E i) (td_grp E 1) (fun q => nm_r (nI_1 i) (ih () ⟨by omega, fun x a b => ?_⟩)) (fun q => K0 (fun hJ => q (hJ i 1 (by omega) hi (by omega) (by omega))))⟩
    by_cases r : x = i
    · rw [r]; exact q
    · exact hI x a (by omega)
end
end
section
/-! X: growTree, closeAtZero, build -/
section
variable {ft fl fk fo : Int32} {aL aR aN aP aG aD aC aB aV aT : Nat → Int32}

/-- what holds of the links taken, whatever tours there are -/
def tx_EI (n : Nat) (aN : Nat → Int32) (E : List (Nat × Nat)) : Prop :=
  E.Nodup ∧ (∀ e, e ∈ E → td_rl aN e ≠ 2) ∧ (∀ a b, a < b → b < n → aN (a * 7 + b) = 1 → (a, b) ∈ E) ∧ (∀ x, 2 < td_deg E x → ∃ e, e ∈ E ∧ td_rl aN e = 0 ∧ (e.1 = x ∨ e.2 = x)) ∧ td_deg E 0 ≤ 2
def tx_ZI (n : Nat) (aN : Nat → Int32) (E Z : List (Nat × Nat)) : Prop :=
  Z.Nodup ∧ (∀ e, e ∈ Z → e.1 = 0 ∧ 0 < e.2 ∧ e.2 < n ∧ td_rl aN e = 0 ∧ e ∉ E) ∧ Z.length + td_deg E 0 = 2
/-- what a tour under the rules still offers while the tree grows, m rounds left -/
def tx_GI (n : Nat) (aL aN aP : Nat → Int32) (E : List (Nat × Nat)) (m : Nat) : Prop := ∀ p, td_P n p → td_Cons n aN p →
  ∃ L Z, td_Sp n L (td_grp E) ∧ (∀ e, e ∈ L → 1 ≤ e.1 ∧ e.1 < e.2 ∧ e.2 < n ∧ td_rl aN e = 0) ∧ tx_ZI n aN E Z ∧ L.length ≤ m ∧ td_sum (tx_w aL aP) E + td_sum (tx_w aL aP) L + td_sum (tx_w aL aP) Z ≤ td_sum (tx_w aL aP) (td_T p)
def tx_HI (n : Nat) (aL aN aP : Nat → Int32) (E : List (Nat × Nat)) : Prop := ∀ p, td_P n p → td_Cons n aN p →
  ∃ Z, tx_ZI n aN E Z ∧ td_sum (tx_w aL aP) E + td_sum (tx_w aL aP) Z ≤ td_sum (tx_w aL aP) (td_T p)

theorem tx_EI_cons {n a b : Nat} {E : List (Nat × Nat)} (h : tx_EI n aN E) (hne : (a, b) ∉ E) (hf : aN (a * 7 + b) = 0) (h0 : td_deg ((a, b) :: E) 0 ≤ 2) : tx_EI n aN ((a, b) :: E) := by
  obtain ⟨h1, h2, h3, h4, h5⟩ := h
  have hf' : td_rl aN (a, b) = 0 := hf
  refine ⟨List.nodup_cons.mpr ⟨hne, h1⟩, fun e he => ?_, fun c d cd dn hr => List.mem_cons_of_mem _ (h3 c d cd dn hr), fun x hx => ?_, h0⟩
  · rcases List.mem_cons.mp he with he | he
    · rw [he, hf']; decide
    · exact h2 e he
  · by_cases q : a = x
    · exact ⟨(a, b), List.mem_cons_self, hf', Or.inl q⟩
    · by_cases r : b = x
      · exact ⟨(a, b), List.mem_cons_self, hf', Or.inr r⟩
      · have hx' : 2 < td_deg E x + (if a = x then 1 else 0) + (if b = x then 1 else 0) := hx
        rw [if_neg q, if_neg r] at hx'
        obtain ⟨e, he, hr⟩ := h4 x hx'
        exact ⟨e, List.mem_cons_of_mem _ he, hr⟩

theorem tx_GI_start {n : Nat} {E : List (Nat × Nat)} (hn : 3 ≤ n) (h1 : E.Nodup) (h2 : ∀ e, e ∈ E → td_rl aN e = 1) (h3 : ∀ a b, a < b → b < n → aN (a * 7 + b) = 1 → (a, b) ∈ E) (hE : ∀ e, e ∈ E → e.1 < e.2 ∧ e.2 < n) (hR : td_ROK aN) (h7 : n ≤ 7) : tx_GI n aL aN aP E (n - 1) := by
  intro p hP hc
  have hin : ∀ e, e ∈ E → e ∈ td_T p := fun e he => by
    have q := hE e he
    exact hc.2 e.1 e.2 q.1 q.2 (h2 e he)
  obtain ⟨L, Z, hSp, hPm, hL, hZ⟩ := td_rest hn hP E h1 hin
  have hnd : (E ++ (L ++ Z)).Nodup := hPm.symm.nodup (td_T_nodup hn hP)
  have hfree : ∀ e, e ∈ L ++ Z → e.1 < e.2 ∧ e.2 < n ∧ td_rl aN e = 0 ∧ e ∉ E := by
    intro e he
    have hT : e ∈ td_T p := hPm.mem_iff.mp (List.mem_append_right _ he)
    have hm := td_T_mem hn hP hT
    have hnE : e ∉ E := fun q => (List.nodup_append.mp hnd).2.2 e q e he rfl
    refine ⟨hm.1, hm.2, ?_, hnE⟩
    rcases (hR e.1 e.2 (by omega) (by omega)).1 with q | q | q
    · exact q
    · exact absurd (h3 e.1 e.2 hm.1 hm.2 q) hnE
    · exact absurd q (hc.1 e hT)
  have hs := td_sum_perm (w := tx_w aL aP) hPm
  rw [td_sum_app, td_sum_app] at hs
  have hd := td_deg_perm hPm 0
  rw [td_deg_app, td_deg_app, td_T_deg hP 0 (by omega)] at hd
  have hL0 : td_deg L 0 = 0 := by
    refine Nat.eq_zero_of_not_pos (fun q => ?_)
    obtain ⟨e, he, hv⟩ := td_deg_ex L 0 q
    have := hfree e (List.mem_append_left _ he)
    have := hL e he
    omega
  have hZ0 : ∀ Z' : List (Nat × Nat), (∀ e, e ∈ Z' → e.1 = 0 ∧ e.1 < e.2) → td_deg Z' 0 = Z'.length := by
    intro Z'
    induction Z' with
    | nil => intro _; rfl
    | cons e Z' ih =>
      intro hh
      have h1 := ih (fun f hf => hh f (List.mem_cons_of_mem _ hf))
      have h2 := hh e List.mem_cons_self
      show td_deg Z' 0 + (if e.1 = 0 then 1 else 0) + (if e.2 = 0 then 1 else 0) = Z'.length + 1
      rw [h1, if_pos h2.1, if_neg (by omega)]
  have hZl := hZ0 Z (fun e he => ⟨hZ e he, (hfree e (List.mem_append_right _ he)).1⟩)
  have hlen := hPm.length_eq
  rw [List.length_append, List.length_append, td_T_len hP] at hlen
  have hE0 : td_deg E 0 ≤ 2 * E.length := td_deg_le E 0
  refine ⟨L, Z, hSp, fun e he => ?_, ⟨(List.nodup_append.mp (List.nodup_append.mp hnd).2.1).2.1, fun e he => ?_, by omega⟩, by omega, by omega⟩
  · have := hfree e (List.mem_append_left _ he)
    have := hL e he
    exact ⟨by omega, by omega, by omega, by simp only [*]⟩
  · have := hfree e (List.mem_append_right _ he)
    have q := hZ e he
    exact ⟨q, by omega, by omega, this.2.2.1, this.2.2.2⟩

theorem tx_GI_step {n a b m : Nat} {E : List (Nat × Nat)} (hG : tx_GI n aL aN aP E (m + 1)) (hc : tx_Cd n aN E (a, b)) (hm : ∀ e, tx_Cd n aN E e → tx_w aL aP a b ≤ tx_w aL aP e.1 e.2) : tx_GI n aL aN aP ((a, b) :: E) m := by
  intro p hP hcs
  obtain ⟨L, Z, hSp, hL, ⟨z1, z2, z3⟩, hlen, hs⟩ := hG p hP hcs
  obtain ⟨c1, c2, c3, c4, c5⟩ := hc
  dsimp only at c1 c2 c3 c5
  obtain ⟨L', hSp', hsub, hl', hs'⟩ := td_grow (w := tx_w aL aP) (F := fun e => 1 ≤ e.1 ∧ e.1 < e.2 ∧ e.2 < n ∧ td_rl aN e = 0) hSp hL c1 (by omega) (by omega) c3 c5 (fun e hF hg => hm e ⟨hF.1, hF.2.1, hF.2.2.1, hF.2.2.2, hg⟩)
  refine ⟨L', Z, hSp', fun e he => hL e (hsub e he), ⟨z1, fun e he => ?_, ?_⟩, by omega, ?_⟩
  · obtain ⟨q1, q2, q3, q4, q5⟩ := z2 e he
    refine ⟨q1, q2, q3, q4, fun r => ?_⟩
    rcases List.mem_cons.mp r with r | r
    · rw [r] at q1
      dsimp only at q1
      omega
    · exact q5 r
  · show Z.length + (td_deg E 0 + (if a = 0 then 1 else 0) + (if b = 0 then 1 else 0)) = 2
    rw [if_neg (by omega), if_neg (by omega)]
    omega
  · show tx_w aL aP a b + td_sum (tx_w aL aP) E + _ + _ ≤ _
    omega

theorem tx_GI_end {n m : Nat} {E : List (Nat × Nat)} (hG : tx_GI n aL aN aP E m) (hJ : tx_Jn n E) : tx_HI n aL aN aP E := by
  intro p hP hcs
  obtain ⟨L, Z, hSp, hL, hZ, hlen, hs⟩ := hG p hP hcs
  match L, hSp, hL, hs with
  | [], _, _, hs =>
    refine ⟨Z, hZ, ?_⟩
    have : td_sum (tx_w aL aP) [] = 0 := rfl
    omega
  | e :: L, hSp, hL, _ =>
    have q := hL e List.mem_cons_self
    exact absurd (hJ e.1 e.2 (by omega) (by omega) (by omega) (by omega)) hSp.1
theorem tx_GI_no {n m : Nat} {E : List (Nat × Nat)} (hG : tx_GI n aL aN aP E m) (hJ : ¬ tx_Jn n E) (h : m = 0 ∨ ∀ e, ¬ tx_Cd n aN E e) : ∀ p, td_P n p → ¬ td_Cons n aN p := by
  intro p hP hcs
  obtain ⟨L, Z, hSp, hL, hZ, hlen, hs⟩ := hG p hP hcs
  match L, hSp, hL, hlen with
  | [], hSp, _, _ => exact hJ hSp
  | e :: L, hSp, hL, hlen =>
    rw [List.length_cons] at hlen
    have q := hL e List.mem_cons_self
    rcases h with h | h
    · omega
    · exact h e ⟨q.1, q.2.1, q.2.2.1, q.2.2.2, hSp.1⟩

theorem tx_dm {a b : Nat} (hb : b < 7) (ha : a < 7) : nI (a * 7 + b) / 7 = nI a ∧ nI (a * 7 + b) - nI (a * 7 + b) / 7 * 7 = nI b := by
  have h1 : nI (a * 7 + b) / nI 7 = nI ((a * 7 + b) / 7) := pk_div (by omega) (by omega) (by omega)
  have h2 : nI (a * 7 + b) - nI (a * 7 + b) / nI 7 * nI 7 = nI ((a * 7 + b) % 7) := pk_rem (by omega) (by omega) (by omega)
  rw [show (a * 7 + b) / 7 = a by omega] at h1
  rw [show (a * 7 + b) % 7 = b by omega] at h2
  exact ⟨h1, h2⟩

theorem wx_growTree {post : Int32 → SX → Prop} {n : Nat} {E : List (Nat × Nat)} (h3 : 3 ≤ n) (h7 : n ≤ 7) (hL : td_LOK aL) (hB : tx_PB n aP 40000) (hR : tx_Rep n aL aP E ft aG aD aC)
    (hI : tx_EI n aN E) (hl : E.length ≤ 7) (hG : tx_GI n aL aN aP E (n - 1))
    (K0 : (∀ p, td_P n p → ¬ td_Cons n aN p) → ∀ ft' aG' aD' aC', post 0 (nI n, ft', fl, fk, fo, aL, aR, aN, aP, aG', aD', aC', aB, aV, aT))
    (K1 : ∀ E ft' aG' aD' aC', tx_Rep n aL aP E ft' aG' aD' aC' → tx_EI n aN E → E.length ≤ 14 → tx_Jn n E → tx_HI n aL aN aP E → post 1 (nI n, ft', fl, fk, fo, aL, aR, aN, aP, aG', aD', aC', aB, aV, aT)) :
    wpX_growTree post (nI n, ft, fl, fk, fo, aL, aR, aN, aP, aG, aD, aC, aB, aV, aT) := by
  show ∃ n2, wX_growTree_2 post n2 (nI 1) (nI n) ft fl fk fo aL aR aN aP aG aD aC aB aV aT
  refine pk_loop (σ := Int32 × (Nat → Int32) × (Nat → Int32) × (Nat → Int32)) (fun k i s => wX_growTree_2 post k (nI i) (nI n) s.1 fl fk fo aL aR aN aP s.2.1 s.2.2.1 s.2.2.2 aB aV aT)
    (fun i s => 1 ≤ i ∧ ∃ E, tx_Rep n aL aP E s.1 s.2.1 s.2.2.1 s.2.2.2 ∧ tx_EI n aN E ∧ E.length + 1 ≤ 7 + i ∧ tx_GI n aL aN aP E (n - i)) n 1 (ft, aG, aD, aC) (by omega) ⟨by omega, E, hR, hI, by omega, hG⟩ ?_ ?_
  · intro k s ⟨_, E, hR, hI, hl, hG⟩
    refine br_t (nI_le (Nat.le_refl _) (by omega)) ?_
    refine wx_joined h3 h7 hR (fun hJ => ⟨rfl, ?_⟩) (fun hJ => ⟨rfl, ?_⟩)
    · exact K0 (tx_GI_no hG hJ (Or.inl (by omega))) _ _ _ _
    · exact K1 E _ _ _ _ hR hI (by omega) hJ (tx_GI_end hG hJ)
  · intro k i s hi ⟨h1, E, hR, hI, hl, hG⟩ ih
    refine br_f (nI_ge hi (by omega)) ?_
    refine wx_cheapestJoin h3 h7 hL hB hR (fun hno => ?_) (fun a b hc hm => ?_)
    · refine br_f (by decide) ?_
      refine wx_joined h3 h7 hR (fun hJ => ⟨rfl, ?_⟩) (fun hJ => ⟨rfl, ?_⟩)
      · exact K0 (tx_GI_no hG hJ (Or.inr hno)) _ _ _ _
      · exact K1 E _ _ _ _ hR hI (by omega) hJ (tx_GI_end hG hJ)
    · have hc' := hc
      obtain ⟨c1, c2, c3, c4, c5⟩ := hc'
      dsimp only at c1 c2 c3 c5
      have hd := tx_dm (a := a) (b := b) (by omega) (by omega)
      refine br_t (nI_pos' (by omega)) ⟨by decide, by decide, ?_⟩
      rw [hd.2, hd.1]
      refine wx_take h7 c2 c3 (by omega) hR (fun ft' aG' aD' aC' hR' => nm_r (nI_1 i) (ih (ft', aG', aD', aC') ⟨by omega, (a, b) :: E, hR', ?_, by rw [List.length_cons]; omega, ?_⟩))
      · refine tx_EI_cons hI (fun q => c5 (td_grp_mem E _ q (by dsimp only; omega))) c4 ?_
        show td_deg E 0 + (if a = 0 then 1 else 0) + (if b = 0 then 1 else 0) ≤ 2
        rw [if_neg (by omega), if_neg (by omega)]
        exact hI.2.2.2.2
      · refine tx_GI_step (m := n - (i + 1)) ?_ hc hm
        rw [show n - (i + 1) + 1 = n - i by omega]
        exact hG
end
end
section
/-! X: closeAtZero, build -/
section
variable {ft fl fk fo : Int32} {aL aR aN aP aG aD aC aB aV aT : Nat → Int32}

def tx_Cz (n : Nat) (aN : Nat → Int32) (E : List (Nat × Nat)) (b : Nat) : Prop := 1 ≤ b ∧ b < n ∧ aN b = 0 ∧ (0, b) ∉ E
def tx_CZ (n : Nat) (aL aN aP : Nat → Int32) (E : List (Nat × Nat)) (j : Nat) (x1 x2 : Int32) : Prop :=
  (x1 = -1 ∧ ∀ b, tx_Cz n aN E b → ¬ b < j) ∨ (∃ b, tx_Cz n aN E b ∧ x1 = nI b ∧ x2.toInt = tx_w aL aP 0 b ∧ ∀ c, tx_Cz n aN E c → c < j → tx_w aL aP 0 b ≤ tx_w aL aP 0 c)
theorem tx_z (b : Nat) : 0 * 7 + b = b := by omega

theorem wx_zero {post : Int32 → SX → Prop} {J2 : Int32 → Int32 → Int32 → Int32 → Int32 → Int32 → (Nat → Int32) → (Nat → Int32) → (Nat → Int32) → (Nat → Int32) → (Nat → Int32) → (Nat → Int32) → (Nat → Int32) → (Nat → Int32) → (Nat → Int32) → (Nat → Int32) → Prop} {x1 : Int32} {n : Nat} {E : List (Nat × Nat)}
    (h3 : 3 ≤ n) (h7 : n ≤ 7) (hL : td_LOK aL) (hB : tx_PB n aP 40000) (hR : tx_Rep n aL aP E ft aG aD aC) (hl : E.length ≤ 40)
    (K0 : (∀ b, ¬ tx_Cz n aN E b) → post 0 (nI n, ft, fl, fk, fo, aL, aR, aN, aP, aG, aD, aC, aB, aV, aT))
    (K1 : ∀ b ft' aG' aD' aC', tx_Cz n aN E b → (∀ c, tx_Cz n aN E c → tx_w aL aP 0 b ≤ tx_w aL aP 0 c) → tx_Rep n aL aP ((0, b) :: E) ft' aG' aD' aC' → J2 (x1 + 1) (nI n) ft' fl fk fo aL aR aN aP aG' aD' aC' aB aV aT) :
    ∃ n24, wX_closeAtZero_24 post J2 x1 (nI n) ft fl fk fo aL aR aN aP aG aD aC aB aV aT n24 (-1) 0 1 := by
  have hR' := hR
  obtain ⟨hE, hG, _, hC, _⟩ := hR
  refine pk_loop (σ := Int32 × Int32) (fun k j s => wX_closeAtZero_24 post J2 x1 (nI n) ft fl fk fo aL aR aN aP aG aD aC aB aV aT k s.1 s.2 (nI j))
    (fun j s => 1 ≤ j ∧ tx_CZ n aL aN aP E j s.1 s.2) n 1 (-1, 0) (by omega) ⟨by omega, Or.inl ⟨rfl, fun b hb hv => ?_⟩⟩ ?_ ?_
  · have := hb.1
    omega
  · intro k s ⟨_, hI⟩
    refine br_t (nI_le (Nat.le_refl _) (by omega)) ?_
    rcases hI with ⟨h1, h2⟩ | ⟨b, h1, h2, h4, h5⟩
    · rw [h1]
      exact br_f (by decide) (K0 (fun b hb => h2 b hb hb.2.1))
    · rw [h2]
      have hb := h1.2.1
      refine br_t (nI_pos' (by omega)) ?_
      exact wx_take (a := 0) h7 h1.1 h1.2.1 hl hR' (fun ft' aG' aD' aC' hR'' => nm_e (K1 b ft' aG' aD' aC' h1 (fun c hc => h5 c hc hc.2.1) hR''))
  · intro k j s hj ⟨h1, hI⟩ ih
    have hw := tx_wI (a := 0) h7 hL hB (by omega) hj
    have keep : (¬ tx_Cz n aN E j ∨ ∃ b, tx_Cz n aN E b ∧ s.1 = nI b ∧ s.2.toInt = tx_w aL aP 0 b ∧ tx_w aL aP 0 b ≤ tx_w aL aP 0 j ∧ ∀ c, tx_Cz n aN E c → c < j → tx_w aL aP 0 b ≤ tx_w aL aP 0 c) → tx_CZ n aL aN aP E (j + 1) s.1 s.2 := by
      intro hk
      rcases hk with hk | ⟨b, g1, g2, g4, g5, g6⟩
      · have hne : ∀ c, tx_Cz n aN E c → c < j + 1 → c < j := by
          intro c hc hv
          by_cases q : c = j
          · rw [q] at hc; exact absurd hc hk
          · omega
        rcases hI with ⟨g1, g2⟩ | ⟨b, g1, g2, g4, g5⟩
        · exact Or.inl ⟨g1, fun c hc hv => g2 c hc (hne c hc hv)⟩
        · exact Or.inr ⟨b, g1, g2, g4, fun c hc hv => g5 c hc (hne c hc hv)⟩
      · refine Or.inr ⟨b, g1, g2, g4, fun c hc hv => ?_⟩
        by_cases q : c = j
        · rw [q]; exact g5
        · exact g6 c hc (by omega)
    have take : tx_Cz n aN E j → (∀ c, tx_Cz n aN E c → c < j → tx_w aL aP 0 j ≤ tx_w aL aP 0 c) → tx_CZ n aL aN aP E (j + 1) (nI j) (aL (0 * 7 + j) + aP 0 + aP j) := by
      intro hc hm
      refine Or.inr ⟨j, hc, rfl, hw.1, fun c hc' hv => ?_⟩
      by_cases q : c = j
      · rw [q]; exact Int.le_refl _
      · exact hm c hc' (by omega)
    have hCj := hC 0 j (by omega) (by omega)
    rw [tx_z, td_nm_lt (by omega)] at hCj
    refine br_f (nI_ge hj (by omega)) (wx_weight (a := 0) (by omega) (by omega) ?_)
    rw [tx_c (by omega)]
    have hskip : tx_CZ n aL aN aP E (j + 1) s.1 s.2 → wX_closeAtZero_66 post J2 (wX_closeAtZero_24 post J2 x1 (nI n) ft fl fk fo aL aR aN aP aG aD aC aB aV aT k) x1 s.1 s.2 (nI j) (aL (0 * 7 + j) + aP 0 + aP j) (nI n) ft fl fk fo aL aR aN aP aG aD aC aB aV aT := by
      intro hh
      unfold wX_closeAtZero_66 wX_closeAtZero_67
      exact br_t rfl (nm_r (nI_1 j) (ih s ⟨by omega, hh⟩))
    refine ⟨tx_in (by omega) (by omega), br_c (fun hr => ⟨tx_in (by omega) (by omega), ?_⟩) (fun hr => hskip (keep (Or.inl (fun hc => hr hc.2.2.1))))⟩
    rw [hCj]
    by_cases q : (0, j) ∈ E
    · rw [if_pos q]
      exact br_f (by decide) (hskip (keep (Or.inl (fun hc => hc.2.2.2 q))))
    · rw [if_neg q]
      have hcd : tx_Cz n aN E j := ⟨h1, hj, hr, q⟩
      refine br_t rfl ?_
      unfold wX_closeAtZero_67
      refine br_f (by decide) ?_
      rcases hI with ⟨g1, g2⟩ | ⟨b, g1, g2, g4, g5⟩
      · exact br_t (by rw [g1]; decide) (nm_r (nI_1 j) (ih (_, _) ⟨by omega, take hcd (fun c hc hv => absurd hv (g2 c hc))⟩))
      · have hb := g1.2.1
        refine br_f (by rw [g2]; exact nI_pos (by omega)) (br_c (fun hle => ?_) (fun hle => ?_))
        · rw [Int32.le_iff_toInt_le, g4, hw.1] at hle
          exact nm_r (nI_1 j) (ih s ⟨by omega, keep (Or.inr ⟨b, g1, g2, g4, hle, g5⟩)⟩)
        · rw [Int32.le_iff_toInt_le, g4, hw.1] at hle
          refine nm_r (nI_1 j) (ih (_, _) ⟨by omega, take hcd (fun c hc hv => ?_)⟩)
          have := g5 c hc hv
          omega

theorem tx_grp0 (b : Nat) (E : List (Nat × Nat)) : td_grp ((0, b) :: E) = td_grp E := rfl
theorem tx_HI_step {n b : Nat} {E : List (Nat × Nat)} (hH : tx_HI n aL aN aP E) (h0 : td_deg E 0 < 2) (hc : tx_Cz n aN E b) (hm : ∀ c, tx_Cz n aN E c → tx_w aL aP 0 b ≤ tx_w aL aP 0 c) : tx_HI n aL aN aP ((0, b) :: E) := by
  intro p hP hcs
  obtain ⟨Z, ⟨z1, z2, z3⟩, hs⟩ := hH p hP hcs
  obtain ⟨Z', n1, n2, n3, n4⟩ := td_close (b := b) (w := tx_w aL aP) z1 (fun q => by rw [q, List.length_nil] at z3; omega) (fun e he => by
    obtain ⟨q1, q2, q3, q4, q5⟩ := z2 e he
    have e0 : e = (0, e.2) := by rw [← q1]
    rw [q1]
    refine hm e.2 ⟨q2, q3, ?_, ?_⟩
    · unfold td_rl at q4
      rw [q1, tx_z] at q4
      exact q4
    · rw [← e0]; exact q5)
  refine ⟨Z', ⟨n1, fun e he => ?_, ?_⟩, ?_⟩
  · obtain ⟨q1, q2, q3, q4, q5⟩ := z2 e (n2 e he).1
    refine ⟨q1, q2, q3, q4, fun r => ?_⟩
    rcases List.mem_cons.mp r with r | r
    · exact (n2 e he).2 r
    · exact q5 r
  · show Z'.length + (td_deg E 0 + (if 0 = 0 then 1 else 0) + (if b = 0 then 1 else 0)) = 2
    rw [if_pos rfl, if_neg (by have := hc.1; omega)]
    omega
  · show tx_w aL aP 0 b + td_sum (tx_w aL aP) E + _ ≤ _
    omega

theorem wx_closeAtZero {post : Int32 → SX → Prop} {n : Nat} {E : List (Nat × Nat)} (h3 : 3 ≤ n) (h7 : n ≤ 7) (hL : td_LOK aL) (hB : tx_PB n aP 40000) (hR : tx_Rep n aL aP E ft aG aD aC)
    (hI : tx_EI n aN E) (hl : E.length ≤ 14) (hJ : tx_Jn n E) (hH : tx_HI n aL aN aP E)
    (K0 : (∀ p, td_P n p → ¬ td_Cons n aN p) → ∀ ft' aG' aD' aC', post 0 (nI n, ft', fl, fk, fo, aL, aR, aN, aP, aG', aD', aC', aB, aV, aT))
    (K1 : ∀ E ft' aG' aD' aC', tx_Rep n aL aP E ft' aG' aD' aC' → tx_EI n aN E → E.length ≤ 16 → tx_Jn n E → td_deg E 0 = 2 → (∀ p, td_P n p → td_Cons n aN p → td_sum (tx_w aL aP) E ≤ td_sum (tx_w aL aP) (td_T p)) → post 1 (nI n, ft', fl, fk, fo, aL, aR, aN, aP, aG', aD', aC', aB, aV, aT)) :
    wpX_closeAtZero post (nI n, ft, fl, fk, fo, aL, aR, aN, aP, aG, aD, aC, aB, aV, aT) := by
  show ∃ n2, wX_closeAtZero_2 post n2 (nI 0) (nI n) ft fl fk fo aL aR aN aP aG aD aC aB aV aT
  have fin : ∀ (s : Int32 × (Nat → Int32) × (Nat → Int32) × (Nat → Int32)) (E : List (Nat × Nat)), tx_Rep n aL aP E s.1 s.2.1 s.2.2.1 s.2.2.2 → tx_EI n aN E → E.length ≤ 16 → tx_Jn n E → tx_HI n aL aN aP E → 2 ≤ td_deg E 0 → wX_closeAtZero_114 post (nI n) s.1 fl fk fo aL aR aN aP s.2.1 s.2.2.1 s.2.2.2 aB aV aT := by
    intro s E hR hI hl hJ hH h2
    have hd : td_deg E 0 = 2 := by have := hI.2.2.2.2; omega
    unfold wX_closeAtZero_114
    refine br_t (by rw [hR.2.2.1 0 (by omega), hd]; rfl) (K1 E _ _ _ _ hR hI hl hJ hd (fun p hP hc => ?_))
    obtain ⟨Z, ⟨z1, z2, z3⟩, hs⟩ := hH p hP hc
    rw [List.length_eq_zero_iff.mp (show Z.length = 0 by omega)] at hs
    have : td_sum (tx_w aL aP) [] = 0 := rfl
    omega
  refine pk_loop (σ := Int32 × (Nat → Int32) × (Nat → Int32) × (Nat → Int32)) (fun k i s => wX_closeAtZero_2 post k (nI i) (nI n) s.1 fl fk fo aL aR aN aP s.2.1 s.2.2.1 s.2.2.2 aB aV aT)
    (fun i s => ∃ E, tx_Rep n aL aP E s.1 s.2.1 s.2.2.1 s.2.2.2 ∧ tx_EI n aN E ∧ E.length ≤ 14 + i ∧ tx_Jn n E ∧ tx_HI n aL aN aP E ∧ i ≤ td_deg E 0) 2 0 (ft, aG, aD, aC) (by omega) ⟨E, hR, hI, by omega, hJ, hH, Nat.zero_le _⟩ ?_ ?_
  · intro k s ⟨E, hR, hI, hl, hJ, hH, hd⟩
    exact br_t (by decide) (fin s E hR hI (by omega) hJ hH hd)
  · intro k i s hi ⟨E, hR, hI, hl, hJ, hH, hd⟩ ih
    have hd2 := td_deg_le E 0
    refine br_f (nI_ge (b := 2) hi (by decide)) ?_
    rw [hR.2.2.1 0 (by omega)]
    refine pk_le 2 (td_deg E 0) (fun h => fin s E hR hI (by omega) hJ hH h) (fun h => ?_)
    refine wx_zero h3 h7 hL hB hR (by omega) (fun hno => K0 (fun p hP hc => ?_) _ _ _ _) (fun b ft' aG' aD' aC' hc hm hR' => ?_)
    · obtain ⟨Z, ⟨z1, z2, z3⟩, hs⟩ := hH p hP hc
      match Z, z2, z3 with
      | [], _, z3 => rw [List.length_nil] at z3; omega
      | e :: Z, z2, _ =>
        obtain ⟨q1, q2, q3, q4, q5⟩ := z2 e List.mem_cons_self
        refine hno e.2 ⟨q2, q3, ?_, ?_⟩
        · unfold td_rl at q4
          rw [q1, tx_z] at q4
          exact q4
        · rw [← q1]; exact q5
    · rw [nI_1]
      have e0 : td_deg ((0, b) :: E) 0 = td_deg E 0 + 1 := by
        show td_deg E 0 + (if 0 = 0 then 1 else 0) + (if b = 0 then 1 else 0) = _
        rw [if_pos rfl, if_neg (by have := hc.1; omega)]
      refine ih (ft', aG', aD', aC') ⟨(0, b) :: E, hR', tx_EI_cons hI hc.2.2.2 (by rw [tx_z]; exact hc.2.2.1) (by omega), by rw [List.length_cons]; omega, hJ, tx_HI_step hH (by omega) hc hm, by omega⟩

theorem wx_build {post : Int32 → SX → Prop} {n : Nat} (h3 : 3 ≤ n) (h7 : n ≤ 7) (hL : td_LOK aL) (hN : td_ROK aN) (hB : tx_PB n aP 40000)
    (K0 : (∀ p, td_P n p → ¬ td_Cons n aN p) → ∀ ft' aG' aD' aC', post 0 (nI n, ft', fl, fk, fo, aL, aR, aN, aP, aG', aD', aC', aB, aV, aT))
    (K1 : ∀ E ft' aG' aD' aC', tx_Rep n aL aP E ft' aG' aD' aC' → tx_EI n aN E → E.length ≤ 16 → tx_Jn n E → td_deg E 0 = 2 → (∀ p, td_P n p → td_Cons n aN p → td_sum (tx_w aL aP) E ≤ td_sum (tx_w aL aP) (td_T p)) → post 1 (nI n, ft', fl, fk, fo, aL, aR, aN, aP, aG', aD', aC', aB, aV, aT)) :
    wpX_build post (nI n, ft, fl, fk, fo, aL, aR, aN, aP, aG, aD, aC, aB, aV, aT) := by
  show ∃ n7, wX_build_7 post (nI n) 0 fl fk fo n7 (nI 0) aL aR aN aP aG aD aC aB aV aT
  refine pk_loop (σ := (Nat → Int32) × (Nat → Int32)) (fun k i s => wX_build_7 post (nI n) 0 fl fk fo k (nI i) aL aR aN aP s.1 s.2 aC aB aV aT) (fun i s => ∀ x, x < i → s.1 x = nI x ∧ s.2 x = 0) n 0 (aG, aD) (Nat.zero_le _) (fun x hx => absurd hx (Nat.not_lt_zero x)) ?_ ?_
  · intro k s hI
    refine br_t (nI_le (Nat.le_refl _) (by omega)) ?_
    refine pk_loop (σ := Nat → Int32) (fun k i c => wX_build_38 post (nI n) 0 fl fk fo k (nI i) aL aR aN aP s.1 s.2 c aB aV aT) (fun i c => ∀ x, x < i → c x = 0) 49 0 aC (Nat.zero_le _) (fun x hx => absurd hx (Nat.not_lt_zero x)) ?_ ?_
    · intro k c hC
      have hR0 : tx_Rep n aL aP [] 0 s.1 s.2 c := by
        refine ⟨fun e he => absurd he (by simp), fun x hx => (hI x hx).1, fun x hx => (hI x hx).2, fun a b ha hb => ?_, rfl⟩
        rw [hC _ (by omega), if_neg (by simp)]
      refine br_t (by decide) ?_
      refine wx_takeRequired h3 h7 hR0 (fun hno ft' aG' aD' aC' => br_t rfl (K0 hno _ _ _ _)) (fun E ft' aG' aD' aC' hR hnd hrq hall hdeg => br_f (by decide) ?_)
      have hlen := tx_len7 hR.1 hdeg
      refine wx_growTree h3 h7 hL hB hR ⟨hnd, fun e he => by rw [hrq e he]; decide, hall, fun x hx => by have := hdeg x; omega, hdeg 0⟩ (by omega) (tx_GI_start h3 hnd hrq hall hR.1 hN h7) (fun hno ft' aG' aD' aC' => br_t rfl (K0 hno _ _ _ _)) (fun E ft' aG' aD' aC' hR hI hl hJ hH => br_f (by decide) ?_)
      exact wx_closeAtZero h3 h7 hL hB hR hI hl hJ hH (fun hno ft' aG' aD' aC' => br_t rfl (K0 hno _ _ _ _)) (fun E ft' aG' aD' aC' hR hI hl hJ hd hm => br_f (by decide) (K1 E _ _ _ _ hR hI hl hJ hd hm))
    · intro k i c hi hC ih
      refine br_f (nI_ge (b := 49) hi (by decide)) ⟨tx_in hi (by omega), nm_e (nm_r (nI_1 i) (ih _ (fun x hx => ?_)))⟩
      rw [tx_c (by omega), tx_b0]
      by_cases q : x = i
      · rw [q, pk_us]
      · rw [pk_un q]; exact hC x (by omega)
  · intro k i s hi hI ih
    refine br_f (nI_ge hi (by omega)) ⟨tx_in (by omega) (by omega), nm_e ⟨tx_in (by omega) (by omega), nm_e (nm_r (nI_1 i) (ih (_, _) (fun x hx => ?_)))⟩⟩
    show upd s.1 (nI i).toNatClampNeg (vp_nar .byte (nI i).toInt8.toInt32) x = nI x ∧ upd s.2 (nI i).toNatClampNeg (vp_nar .byte 0) x = 0
    rw [tx_c (by omega), tx_nb (by omega), show vp_nar .byte 0 = 0 from rfl]
    by_cases q : x = i
    · rw [q, pk_us, pk_us]; exact ⟨rfl, rfl⟩
    · rw [pk_un q, pk_un q]; exact hI x (by omega)
end
end
section
/-! X: examine -/
section
variable {ft fl fk fo : Int32} {aL aR aN aP aG aD aC aB aV aT : Nat → Int32}

theorem tx_oi {k : Nat} (h : k < 2 ^ 31) : Int32.ofInt (k : Int) = nI k := by rw [← nI_toInt h, Int32.ofInt_toInt]
theorem wx_twicePenalties {post : Int32 → Prop} {n : Nat} (h7 : n ≤ 7) (K : post (Int32.ofInt (2 * td_S (fun x => (aP x).toInt) n))) : wpX_twicePenalties post (nI n, ft, fl, fk, fo, aL, aR, aN, aP, aG, aD, aC, aB, aV, aT) := by
  show ∃ n4, wX_twicePenalties_4 post (nI n) ft fl fk fo aL aR aN aP aG aD aC aB aV aT n4 0 (nI 0)
  refine pk_loop (σ := Int32) (fun k i s => wX_twicePenalties_4 post (nI n) ft fl fk fo aL aR aN aP aG aD aC aB aV aT k s (nI i)) (fun i s => s = Int32.ofInt (td_S (fun x => (aP x).toInt) i)) n 0 0 (Nat.zero_le _) rfl ?_ ?_
  · intro k s hI
    refine br_t (nI_le (Nat.le_refl _) (by omega)) ?_
    rw [hI, show (2 : Int32) = Int32.ofInt 2 from rfl, ← Int32.ofInt_mul]
    exact K
  · intro k i s hi hI ih
    refine br_f (nI_ge hi (by omega)) ⟨tx_in (by omega) (by omega), nm_e (nm_r (nI_1 i) (ih _ ?_))⟩
    rw [tx_c (by omega), hI]
    show _ = Int32.ofInt (td_S (fun x => (aP x).toInt) i + (aP i).toInt)
    rw [Int32.ofInt_add, Int32.ofInt_toInt]

theorem wx_isTour {post : Int32 → Prop} {n : Nat} {E : List (Nat × Nat)} (h7 : n ≤ 7) (hl : E.length ≤ 16) (hR : tx_Rep n aL aP E ft aG aD aC)
    (K0 : ∀ v, v < n → td_deg E v ≠ 2 → post 0) (K1 : (∀ v, v < n → td_deg E v = 2) → post 1) : wpX_isTour post (nI n, ft, fl, fk, fo, aL, aR, aN, aP, aG, aD, aC, aB, aV, aT) := by
  show ∃ n2, wX_isTour_2 post (nI n) ft fl fk fo aL aR aN aP aG aD aC aB aV aT n2 (nI 0)
  refine pk_loop (σ := Unit) (fun k i _ => wX_isTour_2 post (nI n) ft fl fk fo aL aR aN aP aG aD aC aB aV aT k (nI i)) (fun i _ => ∀ x, x < i → td_deg E x = 2) n 0 () (Nat.zero_le _) (fun x hx => absurd hx (Nat.not_lt_zero x)) ?_ ?_
  · intro k _ hI
    exact br_t (nI_le (Nat.le_refl _) (by omega)) (K1 hI)
  · intro k i _ hi hI ih
    refine br_f (nI_ge hi (by omega)) ?_
    have hd := td_deg_le E i
    rw [tx_c (by omega), hR.2.2.1 i hi]
    refine ⟨tx_in (by omega) (by omega), pk_eq (td_deg E i) 2 (fun q => nm_r (nI_1 i) (ih () (fun x hx => ?_))) (fun q => K0 i hi q)⟩
    by_cases r : x = i
    · rw [r]; exact q
    · exact hI x (by omega)

theorem wx_bend {post : SX → Prop} {n s : Nat} (h7 : n ≤ 7) (K : ∀ aP', (∀ x, x < n → aP' x = aP x + nI s * (aD x - 2)) → post (nI n, ft, fl, fk, fo, aL, aR, aN, aP', aG, aD, aC, aB, aV, aT)) : wpX_bend post (nI n, ft, fl, fk, fo, aL, aR, aN, aP, aG, aD, aC, aB, aV, aT) (nI s) := by
  show ∃ n2, wX_bend_2 post (nI s) (nI n) ft fl fk fo n2 (nI 0) aL aR aN aP aG aD aC aB aV aT
  refine pk_loop (σ := Nat → Int32) (fun k i q => wX_bend_2 post (nI s) (nI n) ft fl fk fo k (nI i) aL aR aN q aG aD aC aB aV aT) (fun i q => ∀ x, x < n → q x = if x < i then aP x + nI s * (aD x - 2) else aP x) n 0 aP (Nat.zero_le _) (fun x hx => by rw [if_neg (by omega)]) ?_ ?_
  · intro k q hI
    refine br_t (nI_le (Nat.le_refl _) (by omega)) (K q (fun x hx => ?_))
    rw [hI x hx, if_pos hx]
  · intro k i q hi hI ih
    refine br_f (nI_ge hi (by omega)) ⟨tx_in (by omega) (by omega), tx_in (by omega) (by omega), tx_in (by omega) (by omega), nm_e (nm_r (nI_1 i) (ih _ (fun x hx => ?_)))⟩
    rw [tx_c (by omega), hI i hi, if_neg (by omega)]
    by_cases r : x = i
    · rw [r, pk_us, if_pos (by omega)]
    · rw [pk_un r, hI x hx]
      have : x < i ↔ x < i + 1 := by omega
      simp only [this]

theorem wx_linkToBranch {post : Int32 → Prop} {n : Nat} {E : List (Nat × Nat)} (h7 : n ≤ 7) (hl : E.length ≤ 16) (hR : tx_Rep n aL aP E ft aG aD aC)
    (K0 : (∀ a b, a < n → b < n → 2 < td_deg E a → td_nm a b ∈ E → ¬ aN (a * 7 + b) = 0) → post (-1))
    (K1 : ∀ a b, a < n → b < n → td_nm a b ∈ E → aN (a * 7 + b) = 0 → post (nI (a * 7 + b))) : wpX_linkToBranch post (nI n, ft, fl, fk, fo, aL, aR, aN, aP, aG, aD, aC, aB, aV, aT) := by
  show ∃ n2, wX_linkToBranch_2 post (nI n) ft fl fk fo aL aR aN aP aG aD aC aB aV aT n2 (nI 0)
  refine pk_loop (σ := Unit) (fun k i _ => wX_linkToBranch_2 post (nI n) ft fl fk fo aL aR aN aP aG aD aC aB aV aT k (nI i)) (fun i _ => ∀ a b, a < i → b < n → 2 < td_deg E a → td_nm a b ∈ E → ¬ aN (a * 7 + b) = 0) n 0 () (Nat.zero_le _) (fun a b ha => absurd ha (Nat.not_lt_zero a)) ?_ ?_
  · intro k _ hI
    exact br_t (nI_le (Nat.le_refl _) (by omega)) (K0 hI)
  · intro k i _ hi hI ih
    refine br_f (nI_ge hi (by omega)) ?_
    refine pk_loop (σ := Unit) (fun k' j _ => wX_linkToBranch_12 post (wX_linkToBranch_2 post (nI n) ft fl fk fo aL aR aN aP aG aD aC aB aV aT k) (nI i) (nI n) ft fl fk fo aL aR aN aP aG aD aC aB aV aT k' (nI j)) (fun j _ => ∀ b, b < j → 2 < td_deg E i → td_nm i b ∈ E → ¬ aN (i * 7 + b) = 0) n 0 () (Nat.zero_le _) (fun b hb => absurd hb (Nat.not_lt_zero b)) ?_ ?_
    · intro k' _ hJ
      refine br_t (nI_le (Nat.le_refl _) (by omega)) (nm_r (nI_1 i) (ih () (fun a b ha hb => ?_)))
      by_cases q : a = i
      · rw [q]; exact hJ b hb
      · exact hI a b (by omega) hb
    · intro k' j _ hj hJ ih'
      have hd := td_deg_le E i
      have hgo : (2 < td_deg E i → td_nm i j ∈ E → ¬ aN (i * 7 + j) = 0) → ∀ x, x = nI j + 1 → wX_linkToBranch_12 post (wX_linkToBranch_2 post (nI n) ft fl fk fo aL aR aN aP aG aD aC aB aV aT k) (nI i) (nI n) ft fl fk fo aL aR aN aP aG aD aC aB aV aT k' x := by
        intro hh
        refine nm_r (nI_1 j) (ih' () (fun b hb => ?_))
        by_cases q : b = j
        · rw [q]; exact hh
        · exact hJ b (by omega)
      refine br_f (nI_ge hj (by omega)) (nm_r (tx_ix i j) ?_)
      rw [tx_c (by omega), tx_c (by omega), hR.2.2.1 i hi, hR.2.2.2.1 i j (by omega) (by omega)]
      refine ⟨tx_in (by omega) (by omega), pk_le (td_deg E i) 2 (fun h => hgo (fun h' => by omega)) (fun h => ⟨tx_in (by omega) (by omega), ?_⟩)⟩
      by_cases q : td_nm i j ∈ E
      · rw [if_pos q]
        exact br_f (by decide) ⟨tx_in (by omega) (by omega), br_c (fun hr => K1 i j hi hj q hr) (fun hr => hgo (fun _ _ => hr))⟩
      · rw [if_neg q]
        exact br_t rfl (hgo (fun _ hh => absurd hh q))

/-- what a node may do to the least: no tour under the rules is cheaper, and it is a tour's cost if it is new -/
def tx_Lst (n : Nat) (aL aN : Nat → Int32) (fl fl' : Int32) : Prop := (∀ p, td_P n p → td_Cons n aN p → fl'.toInt ≤ td_cost aL p) ∧ fl'.toInt ≤ fl.toInt ∧ (fl' = fl ∨ ∃ p, td_P n p ∧ td_Cons n aN p ∧ td_cost aL p = fl'.toInt)

theorem tx_sd : ∀ s : Nat, s < 33 → ∀ d : Nat, d < 33 → (-64 ≤ (s : Int) * ((d : Int) - 2) ∧ (s : Int) * ((d : Int) - 2) ≤ 960) := by decide +kernel
theorem tx_st : ∀ s, s < 33 → 2 < s → nI s - (nI s >>> ((2 : Int32) &&& 31)) = nI (s - s / 4) := by decide +kernel
theorem tx_PB_bend {n s i : Nat} {E : List (Nat × Nat)} {aP' : Nat → Int32} (hs : s ≤ 32) (hi : i ≤ 23) (hl : E.length ≤ 16) (hD : ∀ x, x < n → aD x = nI (td_deg E x)) (hB : tx_PB n aP (1300 * i)) (h : ∀ x, x < n → aP' x = aP x + nI s * (aD x - 2)) : tx_PB n aP' (1300 * (i + 1 : Nat)) := by
  intro x hx
  have h1 := hB x hx
  have h2 := td_deg_le E x
  have h3 := tx_sd s (by omega) (td_deg E x) (by omega)
  have e : aP' x = Int32.ofInt ((aP x).toInt + (s : Int) * ((td_deg E x : Int) - 2)) := by
    rw [h x hx, hD x hx, Int32.ofInt_add, Int32.ofInt_mul, Int32.ofInt_sub, Int32.ofInt_toInt, tx_oi (by omega), tx_oi (by omega)]
    rfl
  rw [e, Int32.toInt_ofInt_of_le (by omega) (by omega)]
  omega
theorem tx_PB_mono {n : Nat} {B B' : Int} (h : tx_PB n aP B) (hb : B ≤ B') : tx_PB n aP B' := fun x hx => by
  have := h x hx
  omega

theorem tx_bound {n : Nat} {E : List (Nat × Nat)} (h7 : n ≤ 7) (hL : td_LOK aL) (hB : tx_PB n aP 40000) (hE : ∀ e, e ∈ E → e.1 < e.2 ∧ e.2 < n) (hl : E.length ≤ 16) :
    (Int32.ofInt (td_sum (tx_w aL aP) E) - Int32.ofInt (2 * td_S (fun x => (aP x).toInt) n)).toInt = td_sum (tx_w aL aP) E - 2 * td_S (fun x => (aP x).toInt) n := by
  have h1 := tx_sum_bd (w := tx_w aL aP) (B := 100000) E (fun e he => by
    have := hE e he
    exact (tx_wI h7 hL hB (by omega) this.2).2)
  have h2 := tx_S_bd (P := fun x => (aP x).toInt) (B := 40000) n (fun x hx => hB x hx)
  rw [← Int32.ofInt_sub, Int32.toInt_ofInt_of_le (by omega) (by omega)]

theorem wx_examine {post : Int32 → SX → Prop} {n : Nat} (h3 : 3 ≤ n) (h7 : n ≤ 7) (hL : td_LOK aL) (hN : td_ROK aN)
    (K0 : ∀ ft' fl' aP' aG' aD' aC', tx_Lst n aL aN fl fl' → post (-1) (nI n, ft', fl', fk, fo, aL, aR, aN, aP', aG', aD', aC', aB, aV, aT))
    (K1 : ∀ a b ft' aP' aG' aD' aC', a < n → b < n → a ≠ b → aN (a * 7 + b) = 0 → post (nI (a * 7 + b)) (nI n, ft', fl, fk, fo, aL, aR, aN, aP', aG', aD', aC', aB, aV, aT)) :
    wpX_examine post (nI n, ft, fl, fk, fo, aL, aR, aN, aP, aG, aD, aC, aB, aV, aT) := by
  show ∃ n2, wX_examine_2 post (nI n) ft fl fk fo n2 (nI 0) aL aR aN aP aG aD aC aB aV aT
  refine pk_loop (σ := Nat → Int32) (fun k i q => wX_examine_2 post (nI n) ft fl fk fo k (nI i) aL aR aN q aG aD aC aB aV aT) (fun i q => ∀ x, x < i → q x = 0) n 0 aP (Nat.zero_le _) (fun x hx => absurd hx (Nat.not_lt_zero x)) ?_ ?_
  · intro k q hq
    refine br_t (nI_le (Nat.le_refl _) (by omega)) ?_
    refine pk_loop (σ := Nat × Int32 × (Nat → Int32) × (Nat → Int32) × (Nat → Int32) × (Nat → Int32)) (fun k i s => wX_examine_28 post k (nI s.1) (nI i) (nI n) s.2.1 fl fk fo aL aR aN s.2.2.1 s.2.2.2.1 s.2.2.2.2.1 s.2.2.2.2.2 aB aV aT)
      (fun i s => 1 ≤ s.1 ∧ s.1 ≤ 32 ∧ (i < 24 → tx_PB n s.2.2.1 (1300 * i)) ∧ (i = 24 → ∃ E v, tx_Rep n aL s.2.2.1 E s.2.1 s.2.2.2.1 s.2.2.2.2.1 s.2.2.2.2.2 ∧ tx_EI n aN E ∧ E.length ≤ 16 ∧ tx_Jn n E ∧ td_deg E 0 = 2 ∧ v < n ∧ td_deg E v ≠ 2)) 24 0 (32, ft, q, aG, aD, aC) (by omega) ?_ ?_ ?_
    · refine ⟨show 1 ≤ 32 by decide, show 32 ≤ 32 by decide, fun _ x hx => ?_, fun h => absurd h (by decide)⟩
      show -(1300 * ((0 : Nat) : Int)) ≤ (q x).toInt ∧ (q x).toInt ≤ 1300 * ((0 : Nat) : Int)
      rw [hq x hx]
      decide
    · intro k s ⟨_, _, _, hE⟩
      obtain ⟨E, v, hR, hI, hl, hJ, h0, hv, hd⟩ := hE rfl
      refine br_t (by decide) ?_
      refine wx_linkToBranch h7 hl hR (fun hno => ?_) (fun a b ha hb hm hr => K1 a b _ _ _ _ _ ha hb (fun q => ?_) hr)
      · obtain ⟨x, hx, hx2⟩ := td_three h3 hR.1 h0 hJ hv hd
        obtain ⟨e, he, hr, ho⟩ := hI.2.2.2.1 x hx2
        have hlt := hR.1 e he
        rcases ho with ho | ho
        · have h := hno x e.2 hx hlt.2 hx2 (by rw [← ho, td_nm_of hlt.1]; exact he)
          rw [← ho] at h
          exact absurd hr h
        · have h := hno x e.1 hx (by omega) hx2 (by rw [← ho, td_nm_comm, td_nm_of hlt.1]; exact he)
          rw [(hN x e.1 (by omega) (by omega)).2, ← ho] at h
          exact absurd hr h
      · rw [q] at hm
        have := hR.1 _ hm
        rcases td_nm_or b b with r | r <;> rw [r] at this <;> omega
    · intro k i s hi ⟨s1, s2, hB, _⟩ ih
      have hB := hB hi
      have hB4 : tx_PB n s.2.2.1 40000 := tx_PB_mono hB (by omega)
      refine br_f (nI_ge (b := 24) hi (by decide)) ?_
      refine wx_build h3 h7 hL hN hB4 (fun hno ft' aG' aD' aC' => br_t rfl (K0 _ _ _ _ _ _ ⟨fun p hP hc => absurd hc (hno p hP), Int.le_refl _, Or.inl rfl⟩)) (fun E ft' aG' aD' aC' hR hI hl hJ h0 hm => br_f (by decide) ?_)
      refine wx_twicePenalties h7 (nm_e ?_)
      have hT := hR.2.2.2.2
      have hbd := tx_bound h7 hL hB4 hR.1 hl
      rw [← hT] at hbd
      have hlow : ∀ p, td_P n p → td_Cons n aN p → td_sum (tx_w aL s.2.2.1) E - 2 * td_S (fun x => (s.2.2.1 x).toInt) n ≤ td_cost aL p := by
        intro p hP hc
        have h1 := hm p hP hc
        have h2 := tx_wT (aL := aL) (aP := s.2.2.1) h3 hP
        omega
      refine br_c (fun hlt => ?_) (fun hlt => ?_)
      · rw [Int32.lt_iff_toInt_lt, hbd] at hlt
        refine wx_isTour h7 hl hR (fun v hv hd => br_t rfl ?_) (fun hd => br_f (by decide) (K0 _ _ _ _ _ _ ?_))
        · refine pk_le 23 i (fun h => nm_r (nI_1 i) (ih (s.1, ft', s.2.2.1, aG', aD', aC') ⟨s1, s2, fun h' => by omega, fun _ => ⟨E, v, hR, hI, hl, hJ, h0, hv, hd⟩⟩)) (fun h => ?_)
          refine wx_bend h7 (fun aP' hP' => ?_)
          have hPB := tx_PB_bend s2 (by omega) hl hR.2.2.1 hB hP'
          refine pk_le s.1 2 (fun h' => nm_r (nI_1 i) (ih (1, ft', aP', aG', aD', aC') ⟨show 1 ≤ 1 by decide, show 1 ≤ 32 by decide, fun _ => hPB, fun h' => by omega⟩)) (fun h' => ?_)
          refine nm_r (tx_st s.1 (by omega) h') (nm_r (nI_1 i) (ih (s.1 - s.1 / 4, ft', aP', aG', aD', aC') ⟨by show 1 ≤ s.1 - s.1 / 4; omega, by show s.1 - s.1 / 4 ≤ 32; omega, fun _ => hPB, fun h' => by omega⟩))
        · obtain ⟨p, hP, hPm⟩ := td_ham h3 hI.1 hR.1 hd hJ
          have hcs : td_Cons n aN p := ⟨fun e he => hI.2.1 e (hPm.mem_iff.mp he), fun a b ab bn hr => hPm.mem_iff.mpr (hI.2.2.1 a b ab bn hr)⟩
          have hsum := tx_wsum (aL := aL) (aP := s.2.2.1) (fun e he => ⟨by have := hR.1 e he; omega, (hR.1 e he).2⟩) hd
          have hcost : td_cost aL p = td_sum (td_len aL) E := td_sum_perm hPm
          refine ⟨fun p' hP' hc' => ?_, ?_, Or.inr ⟨p, hP, hcs, ?_⟩⟩
          · rw [hbd]; exact hlow p' hP' hc'
          · rw [hbd]; omega
          · rw [hbd]; omega
      · rw [Int32.lt_iff_toInt_lt, hbd] at hlt
        refine K0 _ _ _ _ _ _ ⟨fun p hP hc => ?_, Int.le_refl _, Or.inl rfl⟩
        have := hlow p hP hc
        omega
  · intro k i q hi hI ih
    refine br_f (nI_ge hi (by omega)) ⟨tx_in (by omega) (by omega), nm_e (nm_r (nI_1 i) (ih _ (fun x hx => ?_)))⟩
    rw [tx_c (by omega)]
    by_cases r : x = i
    · rw [r, pk_us]
    · rw [pk_un r]; exact hI x (by omega)
end
end
section
/-! X: decide, backUp, solve -/
section
variable {ft fl fk fo : Int32} {aL aR aN aP aG aD aC aB aV aT : Nat → Int32}

def tx_dec (aN : Nat → Int32) (a b : Nat) (v : Int32) : Nat → Int32 := upd (upd aN (a * 7 + b) v) (b * 7 + a) v
theorem tx_dec_at {a b x y : Nat} {v : Int32} (ha : a < 7) (hb : b < 7) (hx : x < 7) (hy : y < 7) : tx_dec aN a b v (x * 7 + y) = if td_nm x y = td_nm a b then v else aN (x * 7 + y) := by
  have key : td_nm x y = td_nm a b ↔ ((x = a ∧ y = b) ∨ (x = b ∧ y = a)) := by
    rcases td_nm_or x y with p | p <;> rcases td_nm_or a b with q | q <;> rw [p, q] <;> simp only [Prod.mk.injEq]
    · constructor
      · omega
      · intro h
        rcases h with h | h
        · exact h
        · have e1 : td_nm x y = td_nm b a := by rw [h.1, h.2]
          rw [td_nm_comm b a, p, q, Prod.mk.injEq] at e1
          exact e1
    · constructor
      · omega
      · intro h
        rcases h with h | h
        · have e1 : td_nm x y = td_nm a b := by rw [h.1, h.2]
          rw [p, q, Prod.mk.injEq] at e1
          exact e1
        · exact h
    · constructor
      · omega
      · intro h
        rcases h with h | h
        · have e1 : td_nm x y = td_nm a b := by rw [h.1, h.2]
          rw [p, q, Prod.mk.injEq] at e1
          exact e1
        · omega
    · constructor
      · omega
      · intro h
        rcases h with h | h
        · omega
        · have e1 : td_nm x y = td_nm b a := by rw [h.1, h.2]
          rw [td_nm_comm b a, p, q, Prod.mk.injEq] at e1
          exact e1
  unfold tx_dec
  by_cases h : td_nm x y = td_nm a b
  · rw [if_pos h]
    rcases key.mp h with q | q
    · by_cases r : x * 7 + y = b * 7 + a
      · rw [r, pk_us]
      · rw [pk_un r, show x * 7 + y = a * 7 + b by omega, pk_us]
    · rw [show x * 7 + y = b * 7 + a by omega, pk_us]
  · rw [if_neg h]
    have h' : ¬ ((x = a ∧ y = b) ∨ (x = b ∧ y = a)) := fun q => h (key.mpr q)
    rw [pk_un (by omega), pk_un (by omega)]
theorem tx_dec_dec (a b : Nat) (v v' : Int32) : tx_dec (tx_dec aN a b v) a b v' = tx_dec aN a b v' := by
  funext k
  unfold tx_dec
  by_cases q : k = b * 7 + a
  · rw [q, pk_us, pk_us]
  · rw [pk_un q, pk_un q]
    by_cases r : k = a * 7 + b
    · rw [r, pk_us, pk_us]
    · rw [pk_un r, pk_un r, pk_un q, pk_un r]
theorem tx_dec_id {a b : Nat} {v : Int32} (h1 : aN (a * 7 + b) = v) (h2 : aN (b * 7 + a) = v) : tx_dec aN a b v = aN := by
  funext k
  unfold tx_dec
  by_cases q : k = b * 7 + a
  · rw [q, pk_us, h2]
  · rw [pk_un q]
    by_cases r : k = a * 7 + b
    · rw [r, pk_us, h1]
    · rw [pk_un r]
theorem tx_dec_ROK {a b : Nat} {v : Int32} (ha : a < 7) (hb : b < 7) (h : td_ROK aN) (hv : v = 0 ∨ v = 1 ∨ v = 2) : td_ROK (tx_dec aN a b v) := by
  intro x y hx hy
  rw [tx_dec_at ha hb hx hy, tx_dec_at ha hb hy hx, td_nm_comm y x]
  have := h x y hx hy
  by_cases q : td_nm x y = td_nm a b
  · rw [if_pos q, if_pos q]; exact ⟨hv, rfl⟩
  · rw [if_neg q, if_neg q]; exact this
theorem tx_dec_rl {a b : Nat} {v : Int32} {e : Nat × Nat} (ha : a < 7) (hb : b < 7) (h1 : e.1 < e.2) (h2 : e.2 < 7) : td_rl (tx_dec aN a b v) e = if e = td_nm a b then v else td_rl aN e := by
  unfold td_rl
  rw [tx_dec_at ha hb (by omega) h2, td_nm_of h1]
theorem tx_rl_nm {a b : Nat} (ha : a < 7) (hb : b < 7) (h : td_ROK aN) : td_rl aN (td_nm a b) = aN (a * 7 + b) := by
  rcases td_nm_or a b with q | q <;> rw [q]
  · rfl
  · exact (h b a hb ha).2

theorem tx_Cons1 {n a b : Nat} {p : List Nat} (h3 : 3 ≤ n) (h7 : n ≤ 7) (hP : td_P n p) (hN : td_ROK aN) (ha : a < n) (hb : b < n) (hne : a ≠ b) (hr : aN (a * 7 + b) ≠ 2) :
    td_Cons n (tx_dec aN a b 1) p ↔ (td_nm a b ∈ td_T p ∧ td_Cons n aN p) := by
  have hlt := td_nm_inc hne
  have hrl := tx_rl_nm (a := a) (b := b) (by omega) (by omega) hN
  have hbn : (td_nm a b).2 < n := by rcases td_nm_or a b with q | q <;> rw [q] <;> assumption
  constructor
  · intro ⟨c1, c2⟩
    have hin : td_nm a b ∈ td_T p := by
      refine c2 _ _ hlt hbn ?_
      have := tx_dec_rl (aN := aN) (v := 1) (e := td_nm a b) (a := a) (b := b) (by omega) (by omega) hlt (by omega)
      rw [if_pos rfl] at this
      exact this
    refine ⟨hin, fun e he => ?_, fun c d cd dn hreq => c2 c d cd dn ?_⟩
    · by_cases q : e = td_nm a b
      · rw [q, hrl]; exact hr
      · have hm := td_T_mem h3 hP he
        have := c1 e he
        rw [tx_dec_rl (by omega) (by omega) hm.1 (by omega), if_neg q] at this
        exact this
    · have := tx_dec_rl (aN := aN) (v := 1) (e := (c, d)) (a := a) (b := b) (by omega) (by omega) cd (by dsimp only; omega)
      refine Eq.trans this ?_
      by_cases q : (c, d) = td_nm a b
      · rw [if_pos q]
      · rw [if_neg q]; exact hreq
  · intro ⟨hin, c1, c2⟩
    refine ⟨fun e he => ?_, fun c d cd dn hreq => ?_⟩
    · have hm := td_T_mem h3 hP he
      rw [tx_dec_rl (by omega) (by omega) hm.1 (by omega)]
      by_cases q : e = td_nm a b
      · rw [if_pos q]; decide
      · rw [if_neg q]; exact c1 e he
    · by_cases q : (c, d) = td_nm a b
      · rw [q]; exact hin
      · refine c2 c d cd dn ?_
        have := tx_dec_rl (aN := aN) (v := 1) (e := (c, d)) (a := a) (b := b) (by omega) (by omega) cd (by dsimp only; omega)
        rw [if_neg q] at this
        exact this.symm.trans hreq
theorem tx_Cons2 {n a b : Nat} {p : List Nat} (h3 : 3 ≤ n) (h7 : n ≤ 7) (hP : td_P n p) (hN : td_ROK aN) (ha : a < n) (hb : b < n) (hne : a ≠ b) (hr : aN (a * 7 + b) ≠ 1) :
    td_Cons n (tx_dec aN a b 2) p ↔ (td_nm a b ∉ td_T p ∧ td_Cons n aN p) := by
  have hlt := td_nm_inc hne
  have hrl := tx_rl_nm (a := a) (b := b) (by omega) (by omega) hN
  constructor
  · intro ⟨c1, c2⟩
    have hin : td_nm a b ∉ td_T p := by
      intro q
      have hm := td_T_mem h3 hP q
      refine c1 _ q ?_
      rw [tx_dec_rl (by omega) (by omega) hm.1 (by omega), if_pos rfl]
    refine ⟨hin, fun e he => ?_, fun c d cd dn hreq => c2 c d cd dn ?_⟩
    · have hm := td_T_mem h3 hP he
      have := c1 e he
      rw [tx_dec_rl (by omega) (by omega) hm.1 (by omega), if_neg (fun q => hin (by rw [← q]; exact he))] at this
      exact this
    · have := tx_dec_rl (aN := aN) (v := 2) (e := (c, d)) (a := a) (b := b) (by omega) (by omega) cd (by dsimp only; omega)
      refine Eq.trans this ?_
      by_cases q : (c, d) = td_nm a b
      · rw [← hrl, ← q] at hr
        exact absurd hreq hr
      · rw [if_neg q]; exact hreq
  · intro ⟨hin, c1, c2⟩
    refine ⟨fun e he => ?_, fun c d cd dn hreq => ?_⟩
    · have hm := td_T_mem h3 hP he
      rw [tx_dec_rl (by omega) (by omega) hm.1 (by omega), if_neg (fun q => hin (by rw [← q]; exact he))]
      exact c1 e he
    · have := tx_dec_rl (aN := aN) (v := 2) (e := (c, d)) (a := a) (b := b) (by omega) (by omega) cd (by dsimp only; omega)
      by_cases q : (c, d) = td_nm a b
      · rw [if_pos q] at this
        exact absurd (hreq.symm.trans this) (by decide)
      · rw [if_neg q] at this
        exact c2 c d cd dn (this.symm.trans hreq)

/-- how many links are free -/
def tx_fr (aN : Nat → Int32) : Nat := td_ct (fun k => decide (k / 7 < k % 7 ∧ aN k = 0)) 49
theorem td_ct_mono {P Q : Nat → Bool} : ∀ n, (∀ x, x < n → P x = true → Q x = true) → td_ct P n ≤ td_ct Q n
  | 0, _ => Nat.le_refl _
  | n + 1, h => by
    have ih := td_ct_mono n (fun x hx => h x (by omega))
    show td_ct P n + (if P n = true then 1 else 0) ≤ td_ct Q n + (if Q n = true then 1 else 0)
    by_cases r : P n = true
    · rw [if_pos r, if_pos (h n (by omega) r)]; omega
    · rw [if_neg r]; omega
theorem td_ct_lt {P Q : Nat → Bool} {c : Nat} : ∀ n, (∀ x, x < n → P x = true → Q x = true) → c < n → P c = false → Q c = true → td_ct P n < td_ct Q n
  | 0, _, h, _, _ => absurd h (Nat.not_lt_zero c)
  | n + 1, h, hc, hp, hq => by
    show td_ct P n + (if P n = true then 1 else 0) < td_ct Q n + (if Q n = true then 1 else 0)
    by_cases q : c = n
    · have ih := td_ct_mono n (fun x hx => h x (by omega))
      subst q
      rw [if_neg (by rw [hp]; decide), if_pos hq]; omega
    · have ih := td_ct_lt n (fun x hx => h x (by omega)) (by omega) hp hq
      by_cases r : P n = true
      · rw [if_pos r, if_pos (h n (by omega) r)]; omega
      · rw [if_neg r]; omega
theorem tx_fr21 : tx_fr aN ≤ 21 := by
  have h : td_ct (fun k => decide (k / 7 < k % 7)) 49 = 21 := by decide +kernel
  rw [← h]
  refine td_ct_mono 49 (fun x hx hp => ?_)
  exact decide_eq_true (of_decide_eq_true hp).1
theorem tx_fr_dec {a b : Nat} {v : Int32} (ha : a < 7) (hb : b < 7) (hne : a ≠ b) (hN : td_ROK aN) (h0 : aN (a * 7 + b) = 0) (hv : v ≠ 0) : tx_fr (tx_dec aN a b v) < tx_fr aN := by
  have hlt := td_nm_inc hne
  have hrl := tx_rl_nm ha hb hN
  have hb7 : (td_nm a b).2 < 7 := by rcases td_nm_or a b with q | q <;> rw [q] <;> assumption
  refine td_ct_lt (c := (td_nm a b).1 * 7 + (td_nm a b).2) 49 (fun x hx hp => ?_) (by omega) ?_ ?_
  · have hp := of_decide_eq_true hp
    refine decide_eq_true ⟨hp.1, ?_⟩
    have e := tx_dec_at (aN := aN) (v := v) ha hb (x := x / 7) (y := x % 7) (by omega) (by omega)
    rw [show x / 7 * 7 + x % 7 = x by omega] at e
    rw [e] at hp
    by_cases q : td_nm (x / 7) (x % 7) = td_nm a b
    · rw [if_pos q] at hp
      exact absurd hp.2 hv
    · rw [if_neg q] at hp
      exact hp.2
  · refine decide_eq_false (fun q => hv ?_)
    have := tx_dec_rl (aN := aN) (v := v) (e := td_nm a b) ha hb hlt hb7
    rw [if_pos rfl] at this
    exact this.symm.trans q.2
  · exact decide_eq_true ⟨by omega, hrl.trans h0⟩

theorem wx_decide {post : SX → Prop} {fc : Int32} {a b r : Nat} (ha : a < 7) (hb : b < 7) (hr : r < 128) (K : post (fc, ft, fl, fk, fo, aL, aR, tx_dec aN a b (nI r), aP, aG, aD, aC, aB, aV, aT)) : wpX_decide post (fc, ft, fl, fk, fo, aL, aR, aN, aP, aG, aD, aC, aB, aV, aT) (nI a) (nI b) (nI r) := by
  unfold wpX_decide
  dsimp only
  rw [tx_ix, tx_ix, tx_c (by omega), tx_c (by omega), tx_nb hr]
  exact ⟨tx_in (by omega) (by omega), nm_e ⟨tx_in (by omega) (by omega), nm_e K⟩⟩

theorem wx_backEnd {post : Int32 → SX → Prop} {fc : Int32} (K : post (-1) (fc, ft, fl, fk, fo, aL, aR, aN, aP, aG, aD, aC, aB, aV, aT)) : wpX_backUp post (fc, ft, fl, fk, fo, aL, aR, aN, aP, aG, aD, aC, aB, aV, aT) (nI 0) := by
  refine nm_r (e' := -1) (by decide) ⟨1, ?_⟩
  refine br_t (by decide) ?_
  unfold wX_backUp_46
  exact br_f (by decide) K
theorem wx_back0 {post : Int32 → SX → Prop} {fc : Int32} {l a b : Nat} (hl : l < 24) (ha : a < 7) (hb : b < 7) (h0 : aV l = 0) (h1 : aB l = nI (a * 7 + b))
    (K : post (nI (l + 1)) (fc, ft, fl, fk, fo, aL, aR, tx_dec aN a b 1, aP, aG, aD, aC, aB, upd aV l 1, aT)) : wpX_backUp post (fc, ft, fl, fk, fo, aL, aR, aN, aP, aG, aD, aC, aB, aV, aT) (nI (l + 1)) := by
  refine nm_r (nI_pred l) ⟨1, ?_⟩
  have hc := tx_c (k := l) (by omega)
  have hd := tx_dm (a := a) (b := b) hb ha
  refine br_f (nI_pos (by omega)) ⟨tx_in hl (by omega), br_t (by rw [hc]; exact h0) ?_⟩
  unfold wX_backUp_46
  refine br_t (nI_pos' (by omega)) ⟨tx_in hl (by omega), nm_e ⟨tx_in hl (by omega), by decide, tx_in hl (by omega), by decide, ?_⟩⟩
  rw [hc, h1, hd.2, hd.1, nI_1, tx_b1]
  exact wx_decide (r := 1) ha hb (by omega) K
theorem wx_back1 {post : Int32 → SX → Prop} {fc : Int32} {l a b : Nat} (hl : l < 24) (ha : a < 7) (hb : b < 7) (h0 : aV l = 1) (h1 : aB l = nI (a * 7 + b))
    (K : wpX_backUp post (fc, ft, fl, fk, fo, aL, aR, tx_dec aN a b 0, aP, aG, aD, aC, aB, aV, aT) (nI l)) : wpX_backUp post (fc, ft, fl, fk, fo, aL, aR, aN, aP, aG, aD, aC, aB, aV, aT) (nI (l + 1)) := by
  have hK : ∃ n4, wX_backUp_4 post n4 (nI l - 1) fc ft fl fk fo aL aR (tx_dec aN a b 0) aP aG aD aC aB aV aT := K _ rfl
  obtain ⟨n4, hK⟩ := hK
  refine nm_r (nI_pred l) ⟨n4 + 1, ?_⟩
  have hc := tx_c (k := l) (by omega)
  have hd := tx_dm (a := a) (b := b) hb ha
  refine br_f (nI_pos (by omega)) ⟨tx_in hl (by omega), br_f (by rw [hc, h0]; decide) ⟨tx_in hl (by omega), by decide, tx_in hl (by omega), by decide, ?_⟩⟩
  rw [hc, h1, hd.2, hd.1]
  refine wx_decide (r := 0) ha hb (by omega) (nm_r (e' := nI l - 1) ?_ hK)
  exact (Int32.sub_eq_add_neg _ _).symm

/-- powers of two -/
def td_p2 : Nat → Nat
  | 0 => 1
  | n + 1 => 2 * td_p2 n
theorem td_p2_pos : ∀ n, 1 ≤ td_p2 n
  | 0 => Nat.le_refl _
  | n + 1 => by
    have := td_p2_pos n
    show 1 ≤ 2 * td_p2 n
    omega

theorem tx_Lst_join {n a b : Nat} {fl fl1 fl2 : Int32} (h3 : 3 ≤ n) (h7 : n ≤ 7) (hN : td_ROK aN) (ha : a < n) (hb : b < n) (hne : a ≠ b) (h0 : aN (a * 7 + b) = 0)
    (h1 : tx_Lst n aL (tx_dec aN a b 2) fl fl1) (h2 : tx_Lst n aL (tx_dec aN a b 1) fl1 fl2) : tx_Lst n aL aN fl fl2 := by
  obtain ⟨a1, a2, a3⟩ := h1
  obtain ⟨b1, b2, b3⟩ := h2
  have k1 : ∀ p, td_P n p → (td_Cons n (tx_dec aN a b 1) p ↔ (td_nm a b ∈ td_T p ∧ td_Cons n aN p)) := fun p hP => tx_Cons1 h3 h7 hP hN ha hb hne (by rw [h0]; decide)
  have k2 : ∀ p, td_P n p → (td_Cons n (tx_dec aN a b 2) p ↔ (td_nm a b ∉ td_T p ∧ td_Cons n aN p)) := fun p hP => tx_Cons2 h3 h7 hP hN ha hb hne (by rw [h0]; decide)
  refine ⟨fun p hP hc => ?_, by omega, ?_⟩
  · by_cases q : td_nm a b ∈ td_T p
    · exact b1 p hP ((k1 p hP).mpr ⟨q, hc⟩)
    · have := a1 p hP ((k2 p hP).mpr ⟨q, hc⟩)
      omega
  · rcases b3 with b3 | ⟨p, p1, p2, p3⟩
    · rw [b3]
      rcases a3 with a3 | ⟨p, p1, p2, p3⟩
      · exact Or.inl a3
      · exact Or.inr ⟨p, p1, ((k2 p p1).mp p2).2, p3⟩
    · exact Or.inr ⟨p, p1, ((k1 p p1).mp p2).2, p3⟩
end

section
variable {fk fo : Int32} {aL aR aT : Nat → Int32}
theorem wx_sub {post : Int32 → SX → Prop} {n : Nat} (h3 : 3 ≤ n) (h7 : n ≤ 7) (hL : td_LOK aL) : ∀ (f l r k : Nat) (ft fl : Int32) (aN aP aG aD aC aB aV : Nat → Int32), td_ROK aN → tx_fr aN ≤ f → l + f ≤ 21 → r + td_p2 (f + 1) ≤ 4194305 → r + k = 4194310 →
    (∀ r' k' ft' fl' aP' aG' aD' aC' aB' aV', r ≤ r' → r' + 2 ≤ r + td_p2 (f + 1) → r' + k' = 4194310 → tx_Lst n aL aN fl fl' → (∀ j, j < l → aB' j = aB j ∧ aV' j = aV j) →
      wX_solve_34 post (wX_solve_12 post k') (nI l) 1 (nI r') (-1) (nI n) ft' fl' fk fo aL aR aN aP' aG' aD' aC' aB' aV' aT) →
    wX_solve_12 post (k + 1) (nI l) 1 (nI r) (nI n) ft fl fk fo aL aR aN aP aG aD aC aB aV aT := by
  intro f
  induction f with
  | zero =>
    intro l r k ft fl aN aP aG aD aC aB aV hN hf hlf hr hk C
    have hp : td_p2 (0 + 1) = 2 := rfl
    refine br_f (nI_ge (b := 4194304) (by omega) (by decide)) (br_f (nI_pos (by omega)) (br_f (by decide) ?_))
    refine wx_examine h3 h7 hL hN (fun ft' fl' aP' aG' aD' aC' hlst => ?_) (fun a b ft' aP' aG' aD' aC' ha hb hne h0 => ?_)
    · exact C r k _ _ _ _ _ _ _ _ (Nat.le_refl _) (by omega) hk hlst (fun j _ => ⟨rfl, rfl⟩)
    · have := tx_fr_dec (v := 1) (by omega) (by omega) hne hN h0 (by decide)
      omega
  | succ f IH =>
    intro l r k ft fl aN aP aG aD aC aB aV hN hf hlf hr hk C
    have hp : td_p2 (f + 1 + 1) = 2 * td_p2 (f + 1) := rfl
    have hpp := td_p2_pos (f + 1)
    refine br_f (nI_ge (b := 4194304) (by omega) (by decide)) (br_f (nI_pos (by omega)) (br_f (by decide) ?_))
    refine wx_examine h3 h7 hL hN (fun ft' fl' aP' aG' aD' aC' hlst => ?_) (fun a b ft' aP' aG' aD' aC' ha hb hne h0 => ?_)
    · exact C r k _ _ _ _ _ _ _ _ (Nat.le_refl _) (by omega) hk hlst (fun j _ => ⟨rfl, rfl⟩)
    · have f2 := tx_fr_dec (v := 2) (by omega) (by omega) hne hN h0 (by decide)
      have f1 := tx_fr_dec (v := 1) (by omega) (by omega) hne hN h0 (by decide)
      have hcl := tx_c (k := l) (by omega)
      have hd := tx_dm (a := a) (b := b) (by omega) (by omega)
      have N2 : td_ROK (tx_dec aN a b 2) := tx_dec_ROK (by omega) (by omega) hN (Or.inr (Or.inr rfl))
      have N1 : td_ROK (tx_dec aN a b 1) := tx_dec_ROK (by omega) (by omega) hN (Or.inr (Or.inl rfl))
      unfold wX_solve_34
      refine br_f (nI_pos (by omega)) ⟨tx_in (by omega) (by omega), nm_e ⟨tx_in (by omega) (by omega), nm_e ⟨by decide, by decide, ?_⟩⟩⟩
      rw [hcl, tx_nb (by omega), tx_b0, hd.2, hd.1]
      refine wx_decide (r := 2) (by omega) (by omega) (by omega) (nm_r (nI_1 l) (nm_r (nI_1 r) ?_))
      obtain ⟨k0, rfl⟩ : ∃ k0, k = k0 + 1 := ⟨k - 1, by omega⟩
      refine IH (l + 1) (r + 1) k0 _ _ (tx_dec aN a b 2) _ _ _ _ _ _ N2 (by omega) (by omega) (by omega) (by omega) ?_
      intro r1 k1 ft1 fl1 aP1 aG1 aD1 aC1 aB1 aV1 hr1 hr1' hk1 hlst1 hst1
      have s1 := hst1 l (by omega)
      rw [pk_us, pk_us] at s1
      unfold wX_solve_34
      refine br_t (by decide) ?_
      refine wx_back0 (by omega) (by omega) (by omega) s1.2 s1.1 (br_f (nI_pos (by omega)) (nm_r (nI_1 r1) ?_))
      rw [tx_dec_dec]
      obtain ⟨k2, rfl⟩ : ∃ k2, k1 = k2 + 1 := ⟨k1 - 1, by omega⟩
      refine IH (l + 1) (r1 + 1) k2 _ _ (tx_dec aN a b 1) _ _ _ _ _ _ N1 (by omega) (by omega) (by omega) (by omega) ?_
      intro r2 k3 ft2 fl2 aP2 aG2 aD2 aC2 aB2 aV2 hr2 hr2' hk2 hlst2 hst2
      have s2 := hst2 l (by omega)
      rw [pk_us, s1.1] at s2
      unfold wX_solve_34
      refine br_t (by decide) ?_
      refine wx_back1 (by omega) (by omega) (by omega) s2.2 s2.1 ?_
      rw [tx_dec_dec, tx_dec_id h0 (by rw [← (hN a b (by omega) (by omega)).2]; exact h0)]
      have hC := C r2 k3 ft2 fl2 aP2 aG2 aD2 aC2 aB2 aV2 (by omega) (by omega) hk2 (tx_Lst_join h3 h7 hN ha hb hne h0 hlst1 hlst2) (fun j hj => ?_)
      · unfold wX_solve_34 at hC
        exact hC.1 (by decide)
      · have t1 := hst1 j (by omega)
        have t2 := hst2 j (by omega)
        rw [pk_un (by omega)] at t1 t2
        rw [pk_un (by omega)] at t1
        exact ⟨t2.1.trans t1.1, t2.2.trans t1.2⟩

theorem wx_solve {post : Int32 → SX → Prop} {n : Nat} {ft fl : Int32} {aN aP aG aD aC aB aV : Nat → Int32} (h3 : 3 ≤ n) (h7 : n ≤ 7) (hL : td_LOK aL) (hN : td_ROK aN)
    (K : ∀ r ft' fl' aP' aG' aD' aC' aB' aV', td_Min n aL (td_Cons n aN) r → post r (nI n, ft', fl', fk, fo, aL, aR, aN, aP', aG', aD', aC', aB', aV', aT)) :
    wpX_solve post (nI n, ft, fl, fk, fo, aL, aR, aN, aP, aG, aD, aC, aB, aV, aT) := by
  refine ⟨4194310 + 1, ?_⟩
  have hp : td_p2 (21 + 1) = 4194304 := by decide +kernel
  refine wx_sub h3 h7 hL 21 0 0 4194310 _ _ _ _ _ _ _ _ _ hN tx_fr21 (by omega) (by omega) (by omega) ?_
  intro r' k' ft' fl' aP' aG' aD' aC' aB' aV' h0 hr' hk' hlst _
  unfold wX_solve_34
  refine br_t (by decide) (wx_backEnd (br_t (by decide) (nm_r (nI_1 r') ?_)))
  obtain ⟨k0, rfl⟩ : ∃ k0, k' = k0 + 1 := ⟨k' - 1, by omega⟩
  obtain ⟨l1, l2, l3⟩ := hlst
  have hfin : wX_solve_100 post (nI n) ft' fl' fk fo aL aR aN aP' aG' aD' aC' aB' aV' aT := by
    unfold wX_solve_100
    refine br_c (fun q => K _ _ _ _ _ _ _ _ _ (Or.inl ⟨rfl, fun p hP hc => ?_⟩)) (fun q => K _ _ _ _ _ _ _ _ _ ?_)
    · have h1 := l1 p hP hc
      have h2 := (td_cost_rng h3 h7 hL hP).2
      rw [q] at h1
      have : (1000000 : Int32).toInt = 1000000 := by decide
      omega
    · rcases l3 with l3 | ⟨p, p1, p2, p3⟩
      · exact absurd l3 q
      · exact Or.inr ⟨p, p1, p2, p3.symm, fun p' hP' hc' => by rw [p3]; exact l1 p' hP' hc'⟩
  exact br_c (fun _ => hfin) (fun _ => br_t (by decide) hfin)
end
end
section
/-! the greedy way to the first best tour, without the program -/
theorem td_ori {n : Nat} {p q : List Nat} (hn : 3 ≤ n) (hP : td_P n p) (hq : (0 :: q).Nodup) (he : ∀ e, e ∈ td_pe (0 :: q) → e ∈ td_T p) :
    ∃ p' s, td_P n p' ∧ (td_T p').Perm (td_T p) ∧ p' = q ++ s := by
  match q, hq, he with
  | [], _, _ => exact ⟨p, p, hP, List.Perm.refl _, rfl⟩
  | a :: q, hq, he =>
    obtain ⟨p', s, h1, h2, h3⟩ := td_orient hn hP hq he
    exact ⟨p', s, h1, h2, h3⟩
theorem td_Cons_perm {n : Nat} {aN : Nat → Int32} {p p' : List Nat} (h : (td_T p').Perm (td_T p)) (hc : td_Cons n aN p) : td_Cons n aN p' :=
  ⟨fun e he => hc.1 e (h.mem_iff.mp he), fun a b ab bn hr => h.mem_iff.mpr (hc.2 a b ab bn hr)⟩
theorem td_cost_perm {aL : Nat → Int32} {p p' : List Nat} (h : (td_T p').Perm (td_T p)) : td_cost aL p' = td_cost aL p := td_sum_perm h
theorem td_way {p q s : List Nat} {c : Nat} (h : p = q ++ c :: s) : ∀ e, e ∈ td_pe (0 :: (q ++ [c])) → e ∈ td_T p := by
  intro e he
  have e1 : 0 :: (p ++ [0]) = (0 :: q) ++ c :: (s ++ [0]) := by rw [h]; simp
  show e ∈ td_pe (0 :: (p ++ [0]))
  rw [e1, td_pe_app]
  exact List.mem_append_left _ he
theorem td_way0 {p q s : List Nat} (h : p = q ++ s) : ∀ e, e ∈ td_pe (0 :: q) → e ∈ td_T p := by
  intro e he
  have hq : (0 :: q) ≠ [] := by simp
  obtain ⟨m, x, hm⟩ : ∃ m x, 0 :: q = m ++ [x] := ⟨(0 :: q).dropLast, (0 :: q).getLast hq, (List.dropLast_concat_getLast hq).symm⟩
  have e1 : 0 :: (p ++ [0]) = m ++ x :: (s ++ [0]) := by
    rw [h]
    have : 0 :: (q ++ s ++ [0]) = (0 :: q) ++ (s ++ [0]) := by simp
    rw [this, hm]; simp
  show e ∈ td_pe (0 :: (p ++ [0]))
  rw [e1, td_pe_app]
  rw [hm] at he
  exact List.mem_append_left _ he
theorem td_lx_snoc : ∀ (q1 q : List Nat) (c b : Nat), q1.length = q.length → td_lx (q1 ++ [c]) (q ++ [b]) → td_lx q1 q ∨ (q1 = q ∧ c < b)
  | [], [], c, b, _, h => by
    have h : c < b ∨ (c = b ∧ False) := h
    rcases h with h | h
    · exact Or.inr ⟨rfl, h⟩
    · exact absurd h.2 id
  | [], _ :: _, _, _, h, _ => by simp at h
  | _ :: _, [], _, _, h, _ => by simp at h
  | x :: q1, y :: q, c, b, hl, h => by
    have h : x < y ∨ (x = y ∧ td_lx (q1 ++ [c]) (q ++ [b])) := h
    rcases h with h | ⟨h1, h2⟩
    · exact Or.inl (Or.inl h)
    · rcases td_lx_snoc q1 q c b (by simpa using hl) h2 with r | r
      · exact Or.inl (Or.inr ⟨h1, r⟩)
      · exact Or.inr ⟨by rw [h1, r.1], r.2⟩

/-- the way 0, q so far is the first that a best tour can have; aN are the rules with its links required -/
def td_FI (n : Nat) (aL aR aN : Nat → Int32) (c : Int) (q : List Nat) : Prop :=
  (0 :: q).Nodup ∧ (∀ x, x ∈ q → x < n) ∧ td_ROK aN ∧ (∀ p, td_P n p → (td_Cons n aN p ↔ (td_Cons n aR p ∧ ∀ e, e ∈ td_pe (0 :: q) → e ∈ td_T p))) ∧
  (∃ p, td_P n p ∧ td_Cons n aN p ∧ td_cost aL p = c) ∧ (∀ p q' s, td_P n p → td_Cons n aR p → td_cost aL p = c → p = q' ++ s → q'.length = q.length → ¬ td_lx q' q)
/-- some best tour goes on to b from x -/
def td_on (n : Nat) (aL aN : Nat → Int32) (c : Int) (x b : Nat) : Prop := ∃ p, td_P n p ∧ td_Cons n aN p ∧ td_nm x b ∈ td_T p ∧ td_cost aL p = c

theorem td_FI_ex {n x : Nat} {aL aR aN : Nat → Int32} {c : Int} {q m : List Nat} (hn : 3 ≤ n) (h : td_FI n aL aR aN c q) (hl : q.length + 1 < n) (hm : 0 :: q = m ++ [x]) : ∃ b, b < n ∧ b ∉ 0 :: q ∧ td_on n aL aN c x b := by
  obtain ⟨h1, h2, h3, h4, ⟨p0, p1, p2, p3⟩, h5⟩ := h
  obtain ⟨p, s, a1, a2, a3⟩ := td_ori hn p1 h1 ((h4 p0 p1).mp p2).2
  have hlen := a1.1
  match s, a3 with
  | [], a3 =>
    rw [a3, List.length_append, List.length_nil] at hlen
    omega
  | b :: s, a3 =>
    have hbp : b ∈ p := by rw [a3]; simp
    have hnd := td_P0 a1
    refine ⟨b, (a1.2.2 b hbp).2, fun q' => ?_, p, a1, td_Cons_perm a2 p2, ?_, (td_cost_perm a2).trans p3⟩
    · have e1 : 0 :: p = (0 :: q) ++ b :: s := by rw [a3]; rfl
      rw [e1] at hnd
      exact (List.nodup_append.mp hnd).2.2 b q' b (by simp) rfl
    · refine td_way a3 _ ?_
      have e2 : 0 :: (q ++ [b]) = m ++ [x] ++ [b] := by rw [← hm]; rfl
      rw [e2, td_pe_snoc]
      simp

theorem td_FI_step {n x b : Nat} {aL aR aN : Nat → Int32} {c : Int} {q m : List Nat} (h3 : 3 ≤ n) (h7 : n ≤ 7) (h : td_FI n aL aR aN c q) (hm : 0 :: q = m ++ [x]) (hb : b < n) (hbq : b ∉ 0 :: q)
    (hon : td_on n aL aN c x b) (hno : ∀ b', b' < b → b' ∉ 0 :: q → ¬ td_on n aL aN c x b') : td_FI n aL aR (tx_dec aN x b 1) c (q ++ [b]) := by
  obtain ⟨h1, h2, hN, h4, h5, h6⟩ := h
  have hxq : x ∈ 0 :: q := by rw [hm]; simp
  have hx : x < n := by
    rcases List.mem_cons.mp hxq with r | r
    · omega
    · exact h2 x r
  have hxb : x ≠ b := fun r => hbq (by rw [← r]; exact hxq)
  obtain ⟨p0, a1, a2, a3, a4⟩ := hon
  have hr : aN (x * 7 + b) ≠ 2 := by
    rw [← tx_rl_nm (by omega) (by omega) hN]
    exact a2.1 _ a3
  have hpe : td_pe (0 :: (q ++ [b])) = td_pe (0 :: q) ++ [td_nm x b] := by
    have e2 : 0 :: (q ++ [b]) = m ++ [x] ++ [b] := by rw [← hm]; rfl
    rw [e2, td_pe_snoc, hm]
  refine ⟨?_, ?_, tx_dec_ROK (by omega) (by omega) hN (Or.inr (Or.inl rfl)), ?_, ⟨p0, a1, (tx_Cons1 h3 h7 a1 hN hx hb hxb hr).mpr ⟨a3, a2⟩, a4⟩, ?_⟩
  · show ((0 :: q) ++ [b]).Nodup
    refine List.nodup_append.mpr ⟨h1, by simp, fun y hy z hz r => ?_⟩
    rw [List.mem_singleton.mp hz] at r
    exact hbq (by rw [← r]; exact hy)
  · intro y hy
    rw [List.mem_append] at hy
    rcases hy with hy | hy
    · exact h2 y hy
    · rw [List.mem_singleton.mp hy]; exact hb
  · intro p hP
    rw [tx_Cons1 h3 h7 hP hN hx hb hxb hr, h4 p hP, hpe]
    constructor
    · intro ⟨c1, c2, c3⟩
      refine ⟨c2, fun e he => ?_⟩
      rw [List.mem_append] at he
      rcases he with he | he
      · exact c3 e he
      · rw [List.mem_singleton.mp he]; exact c1
    · intro ⟨c1, c2⟩
      exact ⟨c2 _ (List.mem_append_right _ (by simp)), c1, fun e he => c2 e (List.mem_append_left _ he)⟩
  · intro p q' s hP hc hk hp hl hlx
    have hq' : q' ≠ [] := fun r => by rw [r] at hl; simp at hl
    obtain ⟨q1, c1, hq1⟩ : ∃ m x, q' = m ++ [x] := ⟨q'.dropLast, q'.getLast hq', (List.dropLast_concat_getLast hq').symm⟩
    rw [hq1] at hl hlx hp
    simp only [List.length_append, List.length_cons, List.length_nil] at hl
    have hp' : p = q1 ++ c1 :: s := by rw [hp]; simp
    rcases td_lx_snoc q1 q c1 b (by omega) hlx with r | ⟨r1, r2⟩
    · exact h6 p q1 (c1 :: s) hP hc hk hp' (by omega) r
    · rw [r1] at hp'
      have hnd := td_P0 hP
      have e1 : 0 :: p = (0 :: q) ++ c1 :: s := by rw [hp']; rfl
      rw [e1] at hnd
      have hway := td_way hp'
      refine hno c1 r2 (fun z => (List.nodup_append.mp hnd).2.2 c1 z c1 (by simp) rfl) ⟨p, hP, (h4 p hP).mpr ⟨hc, td_way0 hp'⟩, hway _ ?_, hk⟩
      have e2 : 0 :: (q ++ [c1]) = m ++ [x] ++ [c1] := by rw [← hm]; rfl
      rw [e2, td_pe_snoc]
      simp

/-- what the desk keeps of the question without further rules -/
def td_Info (n : Nat) (aL aR : Nat → Int32) (fo : Int32) (aT : Nat → Int32) : Prop :=
  td_Min n aL (td_Cons n aR) fo ∧ (¬ fo < 0 → ∃ p, td_P n p ∧ td_Cons n aR p ∧ td_cost aL p = fo.toInt ∧ (∀ p', td_P n p' → td_Cons n aR p' → td_cost aL p' = fo.toInt → ¬ td_lx p' p) ∧ ∀ k, k < n → aT k = nI ((0 :: p).getD k 0))

theorem td_FI_end {n : Nat} {aL aR aN : Nat → Int32} {c : Int} {q : List Nat} (hn : 3 ≤ n) (h : td_FI n aL aR aN c q) (hl : q.length + 1 = n) : td_P n q ∧ td_Cons n aR q ∧ td_cost aL q = c ∧ ∀ p', td_P n p' → td_Cons n aR p' → td_cost aL p' = c → ¬ td_lx p' q := by
  obtain ⟨h1, h2, h3, h4, ⟨p0, p1, p2, p3⟩, h5⟩ := h
  obtain ⟨p, s, a1, a2, a3⟩ := td_ori hn p1 h1 ((h4 p0 p1).mp p2).2
  have hlen := a1.1
  rw [a3, List.length_append] at hlen
  rw [List.length_eq_zero_iff.mp (show s.length = 0 by omega), List.append_nil] at a3
  rw [a3] at a1 a2
  refine ⟨a1, td_Cons_perm a2 ((h4 p0 p1).mp p2).1, (td_cost_perm a2).trans p3, fun p' hP hc hk => h5 p' p' [] hP hc hk (by simp) ?_⟩
  have := hP.1
  omega
end
section
/-! X: askPlainly, nextCity, findTour, bestWith, bestWithout -/
abbrev tx_Sc : Type := Int32 × Int32 × (Nat → Int32) × (Nat → Int32) × (Nat → Int32) × (Nat → Int32) × (Nat → Int32) × (Nat → Int32)
theorem tx_bt1 : ∀ i, i < 32 → bt 1 i = decide (i = 0) := by decide +kernel
theorem tx_bit {b i : Nat} (hb : b < 32) (hi : i < 32) : bt ((1 : Int32) <<< (nI b &&& 31)) i = decide (i = b) := by
  rw [b_shl b hb 1 hi]
  by_cases h : b ≤ i
  · rw [tx_bt1 (i - b) (by omega)]
    by_cases q : i = b
    · subst q; simp
    · rw [decide_eq_false q, decide_eq_false (show ¬ i - b = 0 by omega)]; simp
  · rw [decide_eq_false h, decide_eq_false (show ¬ i = b by omega)]; rfl
theorem tx_tst {x : Int32} {b : Nat} (hb : b < 32) : ((x >>> (nI b &&& 31)) &&& 1 = 0) ↔ bt x b = false := by
  have h0 : bt (x >>> (nI b &&& 31)) 0 = bt x b := by
    rw [b_sshr b hb x (by omega), if_pos (by omega)]; rfl
  constructor
  · intro h
    have : bt ((x >>> (nI b &&& 31)) &&& 1) 0 = bt 0 0 := by rw [h]
    rw [b_and, h0, b_0, tx_bt1 0 (by omega)] at this
    simpa using this
  · intro h
    refine b_ext (fun i hi => ?_)
    rw [b_and, b_0, tx_bt1 i hi]
    by_cases q : i = 0
    · rw [q, h0, h]; rfl
    · rw [decide_eq_false q, Bool.and_false]

section
variable {ft fl fk fo : Int32} {aL aR aN aP aG aD aC aB aV aT : Nat → Int32}

theorem tx_agr_ROK (h : ∀ k, k < 49 → aN k = aR k) (hR : td_ROK aR) : td_ROK aN := by
  intro a b ha hb
  rw [h _ (by omega), h _ (by omega)]
  exact hR a b ha hb
theorem tx_agr_Cons {n : Nat} {p : List Nat} (h3 : 3 ≤ n) (h7 : n ≤ 7) (hP : td_P n p) (h : ∀ k, k < 49 → aN k = aR k) : td_Cons n aN p ↔ td_Cons n aR p := by
  have k1 : ∀ e, e ∈ td_T p → td_rl aN e = td_rl aR e := fun e he => by
    have := td_T_mem h3 hP he
    exact h _ (by omega)
  constructor
  · intro ⟨c1, c2⟩
    exact ⟨fun e he => by rw [← k1 e he]; exact c1 e he, fun a b ab bn hr => c2 a b ab bn (by rw [h _ (by omega)]; exact hr)⟩
  · intro ⟨c1, c2⟩
    exact ⟨fun e he => by rw [k1 e he]; exact c1 e he, fun a b ab bn hr => c2 a b ab bn (by rw [← h _ (by omega)]; exact hr)⟩

theorem wx_askPlainly {post : SX → Prop} {fc : Int32} (hR : td_ROK aR) (K : ∀ aN', (∀ k, k < 49 → aN' k = aR k) → post (fc, ft, fl, fk, fo, aL, aR, aN', aP, aG, aD, aC, aB, aV, aT)) : wpX_askPlainly post (fc, ft, fl, fk, fo, aL, aR, aN, aP, aG, aD, aC, aB, aV, aT) := by
  show ∃ n2, wX_askPlainly_2 post fc ft fl fk fo n2 (nI 0) aL aR aN aP aG aD aC aB aV aT
  refine pk_loop (σ := Nat → Int32) (fun k i q => wX_askPlainly_2 post fc ft fl fk fo k (nI i) aL aR q aP aG aD aC aB aV aT) (fun i q => ∀ x, x < i → q x = aR x) 49 0 aN (Nat.zero_le _) (fun x hx => absurd hx (Nat.not_lt_zero x)) ?_ ?_
  · intro k q hI
    exact br_t (by decide) (K q hI)
  · intro k i q hi hI ih
    refine br_f (nI_ge (b := 49) hi (by decide)) ⟨tx_in hi (by omega), tx_in hi (by omega), nm_e (nm_r (nI_1 i) (ih _ (fun x hx => ?_)))⟩
    have hv : vp_nar .byte (aR i) = aR i := by
      have := (hR (i / 7) (i % 7) (by omega) (by omega)).1
      rw [show i / 7 * 7 + i % 7 = i by omega] at this
      rcases this with r | r | r <;> rw [r] <;> rfl
    rw [tx_c (by omega), hv]
    by_cases r : x = i
    · rw [r, pk_us]
    · rw [pk_un r]; exact hI x (by omega)

theorem wx_solveS {post : Int32 → SX → Prop} {n : Nat} (h3 : 3 ≤ n) (h7 : n ≤ 7) (hL : td_LOK aL) (hN : td_ROK aN)
    (K : ∀ r (s : tx_Sc), td_Min n aL (td_Cons n aN) r → post r (nI n, s.1, s.2.1, fk, fo, aL, aR, aN, s.2.2.1, s.2.2.2.1, s.2.2.2.2.1, s.2.2.2.2.2.1, s.2.2.2.2.2.2.1, s.2.2.2.2.2.2.2, aT)) : wpX_solve post (nI n, ft, fl, fk, fo, aL, aR, aN, aP, aG, aD, aC, aB, aV, aT) :=
  wx_solve h3 h7 hL hN (fun r ft' fl' aP' aG' aD' aC' aB' aV' h => K r (ft', fl', aP', aG', aD', aC', aB', aV') h)

theorem wx_nextCity {post : Int32 → SX → Prop} {n x : Nat} {seen : Int32} {q m : List Nat} (h3 : 3 ≤ n) (h7 : n ≤ 7) (hL : td_LOK aL)
    (hF : td_FI n aL aR aN fo.toInt q) (hl : q.length + 1 < n) (hm : 0 :: q = m ++ [x]) (hs : ∀ b, b < 7 → bt seen b = decide (b ∈ 0 :: q)) (hmin : ∀ p, td_P n p → td_Cons n aR p → fo.toInt ≤ td_cost aL p)
    (K : ∀ b (s : tx_Sc), b < n → b ∉ 0 :: q → td_on n aL aN fo.toInt x b → (∀ b', b' < b → b' ∉ 0 :: q → ¬ td_on n aL aN fo.toInt x b') → post (nI b) (nI n, s.1, s.2.1, fk, fo, aL, aR, aN, s.2.2.1, s.2.2.2.1, s.2.2.2.2.1, s.2.2.2.2.2.1, s.2.2.2.2.2.2.1, s.2.2.2.2.2.2.2, aT)) :
    wpX_nextCity post (nI n, ft, fl, fk, fo, aL, aR, aN, aP, aG, aD, aC, aB, aV, aT) (nI x) seen := by
  have hF' := hF
  obtain ⟨h1, h2, hN, h4, _, _⟩ := hF
  have hxq : x ∈ 0 :: q := by rw [hm]; simp
  have hx : x < n := by
    rcases List.mem_cons.mp hxq with r | r
    · omega
    · exact h2 x r
  show ∃ n2, wX_nextCity_2 post (nI x) seen n2 (nI 0) (nI n) ft fl fk fo aL aR aN aP aG aD aC aB aV aT
  refine pk_loop (σ := tx_Sc) (fun k i s => wX_nextCity_2 post (nI x) seen k (nI i) (nI n) s.1 s.2.1 fk fo aL aR aN s.2.2.1 s.2.2.2.1 s.2.2.2.2.1 s.2.2.2.2.2.1 s.2.2.2.2.2.2.1 s.2.2.2.2.2.2.2 aT) (fun i _ => ∀ b', b' < i → b' ∉ 0 :: q → ¬ td_on n aL aN fo.toInt x b') n 0 (ft, fl, aP, aG, aD, aC, aB, aV) (Nat.zero_le _) (fun b hb => absurd hb (Nat.not_lt_zero b)) ?_ ?_
  · intro k s hI
    obtain ⟨b, b1, b2, b3⟩ := td_FI_ex h3 hF' hl hm
    exact absurd b3 (hI b b1 b2)
  · intro k b s hb hI ih
    have skip : (b ∉ 0 :: q → ¬ td_on n aL aN fo.toInt x b) → ∀ b', b' < b + 1 → b' ∉ 0 :: q → ¬ td_on n aL aN fo.toInt x b' := by
      intro hh b' hb'
      by_cases r : b' = b
      · rw [r]; exact hh
      · exact hI b' (by omega)
    refine br_f (nI_ge hb (by omega)) ?_
    rw [tx_ix, tx_c (by omega)]
    refine ⟨tx_in (by omega) (by omega), nm_e (br_c (fun ht => ?_) (fun ht => ?_))⟩
    · rw [tx_tst (by omega), hs b (by omega)] at ht
      have hbq := of_decide_eq_false ht
      have hxb : x ≠ b := fun r => hbq (by rw [← r]; exact hxq)
      refine br_c (fun hr => nm_r (nI_1 b) (ih s (skip (fun _ ⟨p, p1, p2, p3, p4⟩ => ?_)))) (fun hr => ?_)
      · have := p2.1 _ p3
        rw [tx_rl_nm (by omega) (by omega) hN] at this
        exact this hr
      · have hv : ∃ v, v < 128 ∧ aN (x * 7 + b) = nI v := by
          rcases (hN x b (by omega) (by omega)).1 with r | r | r
          · exact ⟨0, by omega, r⟩
          · exact ⟨1, by omega, r⟩
          · exact ⟨2, by omega, r⟩
        obtain ⟨v, hv, hv'⟩ := hv
        refine wx_decide (r := 1) (by omega) (by omega) (by omega) ?_
        refine wx_solveS (aN := tx_dec aN x b 1) h3 h7 hL (tx_dec_ROK (by omega) (by omega) hN (Or.inr (Or.inl rfl))) (fun r s' hM => ?_)
        rw [hv']
        refine wx_decide (by omega) (by omega) hv ?_
        rw [tx_dec_dec, tx_dec_id hv' (by rw [← (hN x b (by omega) (by omega)).2]; exact hv')]
        have hM := td_Min_congr (fun p hP => tx_Cons1 h3 h7 hP hN hx hb hxb hr) hM
        refine br_c (fun he => K b s' hb hbq ?_ hI) (fun he => nm_r (nI_1 b) (ih s' (skip (fun _ ⟨p, p1, p2, p3, p4⟩ => ?_))))
        · rcases hM with ⟨m1, m2⟩ | ⟨p, m1, m2, m3, m4⟩
          · exfalso
            obtain ⟨p, p1, p2, p3⟩ := hF'.2.2.2.2.1
            have := td_cost_rng h3 h7 hL p1
            rw [← he, m1] at p3
            have e : (-1 : Int32).toInt = -1 := by decide
            omega
          · exact ⟨p, m1, m2.2, m2.1, by rw [← m3, he]⟩
        · rcases hM with ⟨m1, m2⟩ | ⟨p', m1, m2, m3, m4⟩
          · exact m2 p p1 ⟨p3, p2⟩
          · have a := m4 p p1 ⟨p3, p2⟩
            have c := hmin p' m1 ((h4 p' m1).mp m2.2).1
            exact he (Int32.toInt_inj.mp (by omega))
    · rw [tx_tst (by omega), hs b (by omega)] at ht
      refine nm_r (nI_1 b) (ih s (skip (fun hn => absurd (decide_eq_false hn) ht)))

theorem wx_findTour {post : SX → Prop} {n : Nat} (h3 : 3 ≤ n) (h7 : n ≤ 7) (hL : td_LOK aL) (hR : td_ROK aR) (hI : fk ≠ 0 → td_Info n aL aR fo aT)
    (K : ∀ fk' fo' aN' aT' (s : tx_Sc), fk' ≠ 0 → td_Info n aL aR fo' aT' → post (nI n, s.1, s.2.1, fk', fo', aL, aR, aN', s.2.2.1, s.2.2.2.1, s.2.2.2.2.1, s.2.2.2.2.2.1, s.2.2.2.2.2.2.1, s.2.2.2.2.2.2.2, aT')) : wpX_findTour post (nI n, ft, fl, fk, fo, aL, aR, aN, aP, aG, aD, aC, aB, aV, aT) := by
  refine br_c (fun h0 => ?_) (fun h0 => K fk fo aN aT (ft, fl, aP, aG, aD, aC, aB, aV) h0 (hI h0))
  refine wx_askPlainly hR (fun aN' hA => ?_)
  refine wx_solveS h3 h7 hL (tx_agr_ROK hA hR) (fun r s hM => ?_)
  have hM := td_Min_congr (fun p hP => tx_agr_Cons h3 h7 hP hA) hM
  have hneg := td_Min_neg h3 h7 hL hM
  refine br_c (fun hr => nm_e ?_) (fun hr => K 1 r aN' aT s (by decide) ⟨hM, fun q => absurd (Int32.not_lt.mp q) hr⟩)
  have hr' : ¬ r < 0 := Int32.not_lt.mpr hr
  obtain ⟨p, p1, p2, p3, p4⟩ := hneg.2 hr'
  show ∃ n44, wX_findTour_44 post n44 1 (nI 1) (nI n) s.1 s.2.1 1 r aL aR aN' s.2.2.1 s.2.2.2.1 s.2.2.2.2.1 s.2.2.2.2.2.1 s.2.2.2.2.2.2.1 s.2.2.2.2.2.2.2 (upd aT 0 (vp_nar .byte 0))
  refine pk_loop (σ := Int32 × (Nat → Int32) × (Nat → Int32) × tx_Sc) (fun k i z => wX_findTour_44 post k z.1 (nI i) (nI n) z.2.2.2.1 z.2.2.2.2.1 1 r aL aR z.2.1 z.2.2.2.2.2.1 z.2.2.2.2.2.2.1 z.2.2.2.2.2.2.2.1 z.2.2.2.2.2.2.2.2.1 z.2.2.2.2.2.2.2.2.2.1 z.2.2.2.2.2.2.2.2.2.2 z.2.2.1)
    (fun i z => ∃ q, q.length + 1 = i ∧ td_FI n aL aR z.2.1 r.toInt q ∧ (∀ k, k < i → z.2.2.1 k = nI ((0 :: q).getD k 0)) ∧ (∀ b, b < 7 → bt z.1 b = decide (b ∈ 0 :: q))) n 1 (1, aN', upd aT 0 (vp_nar .byte 0), s) (by omega) ?_ ?_ ?_
  · refine ⟨[], rfl, ⟨by simp, fun x hx => absurd hx (by simp), tx_agr_ROK hA hR, fun p hP => ?_, ⟨p, p1, (tx_agr_Cons h3 h7 p1 hA).mpr p2, p3.symm⟩, ?_⟩, fun k hk => ?_, fun b hb => ?_⟩
    · show td_Cons n aN' p ↔ _
      rw [tx_agr_Cons h3 h7 hP hA]
      exact ⟨fun h => ⟨h, fun e he => absurd he (by simp [td_pe])⟩, fun h => h.1⟩
    · intro p q' s hP hc hk hp hl hlx
      rw [List.length_eq_zero_iff.mp hl] at hlx
      exact hlx
    · rw [show k = 0 by omega]
      rfl
    · show bt 1 b = _
      rw [tx_bt1 b (by omega)]
      simp
  · intro k z ⟨q, hq, hF, hT, _⟩
    have hE := td_FI_end h3 hF hq
    exact br_t (nI_le (Nat.le_refl _) (by omega)) (K 1 r z.2.1 z.2.2.1 z.2.2.2 (by decide) ⟨hM, fun _ => ⟨q, hE.1, hE.2.1, hE.2.2.1, hE.2.2.2, hT⟩⟩)
  · intro k i z hi ⟨q, hq, hF, hT, hS⟩ ih
    have hne : (0 :: q) ≠ [] := by simp
    obtain ⟨m, x, hm⟩ : ∃ m x, 0 :: q = m ++ [x] := ⟨(0 :: q).dropLast, (0 :: q).getLast hne, (List.dropLast_concat_getLast hne).symm⟩
    have hml : m.length = q.length := by
      have := congrArg List.length hm
      simp only [List.length_cons, List.length_append, List.length_nil] at this
      omega
    have hxT : z.2.2.1 q.length = nI x := by
      rw [hT _ (by omega), hm, ← hml]
      simp
    have hx : x < n := by
      have hxq : x ∈ 0 :: q := by rw [hm]; simp
      rcases List.mem_cons.mp hxq with r | r
      · omega
      · exact hF.2.1 x r
    have hpr : nI i - 1 = nI q.length := by rw [← hq, nI_pred]
    refine br_f (nI_ge hi (by omega)) ?_
    have hcq := tx_c (k := q.length) (by omega)
    have hci := tx_c (k := i) (by omega)
    rw [hpr, hcq, hxT]
    refine ⟨tx_in (by omega) (by omega), ?_⟩
    refine wx_nextCity h3 h7 hL hF (by omega) hm hS (fun p hP hc => by rw [p3]; exact p4 p hP hc) (fun b s' hb hbq hon hno => ?_)
    refine ⟨tx_in (by omega) (by omega), nm_e ⟨tx_in (by omega) (by omega), ?_⟩⟩
    rw [hci, tx_nb (by omega), pk_un (by omega), hxT]
    refine wx_decide (r := 1) (by omega) (by omega) (by omega) (nm_e (nm_r (nI_1 i) ?_))
    refine ih (_, tx_dec z.2.1 x b 1, upd z.2.2.1 i (nI b), s') ⟨q ++ [b], by simp; omega, td_FI_step h3 h7 hF hm hb hbq hon hno, fun j hj => ?_, fun c hc => ?_⟩
    · show upd z.2.2.1 i (nI b) j = nI ((0 :: q ++ [b]).getD j 0)
      by_cases r : j = i
      · subst r
        rw [pk_us]
        have : (0 :: q ++ [b]).getD j 0 = b := by
          rw [← hq]
          simp
        rw [this]
      · rw [pk_un r, hT j (by omega)]
        rw [List.getD_eq_getElem?_getD, List.getD_eq_getElem?_getD, List.getElem?_append_left (by rw [List.length_cons]; omega)]
    · show bt (z.1 ||| _) c = _
      rw [b_or, hS c hc, tx_bit (by omega) (by omega)]
      have e : c ∈ 0 :: (q ++ [b]) ↔ (c ∈ 0 :: q ∨ c = b) := by simp [or_assoc]
      by_cases r1 : c ∈ 0 :: q
      · rw [decide_eq_true r1, decide_eq_true (e.mpr (Or.inl r1))]; rfl
      · rw [decide_eq_false r1]
        by_cases r2 : c = b
        · rw [decide_eq_true r2, decide_eq_true (e.mpr (Or.inr r2))]; rfl
        · rw [decide_eq_false r2, decide_eq_false (fun h => (e.mp h).elim r1 r2)]; rfl
end
end
section
/-! Y: nth, spell, next, cost -/
theorem ty_tst : ∀ l, l < 128 → ∀ c, c < 7 → (((nI l >>> (nI c &&& 31)) &&& 1) = 1 ↔ l / 2 ^ c % 2 = 1) := by decide +kernel
theorem ty_clr : ∀ l, l < 128 → ∀ c, c < 7 → nI l &&& (((1 : Int32) <<< (nI c &&& 31)) ^^^ (-1)) = nI (td_clr l c) := by decide +kernel
theorem ty_full : ∀ n, n < 8 → 3 ≤ n → ((1 : Int32) <<< (nI n &&& 31)) - 2 = nI (2 ^ n - 2) := by decide +kernel
theorem ty_fac : ∀ n, n < 7 → td_fac n ≤ 720 := by decide +kernel
/-- city k of the tour 0, p; 0 again behind the last -/
def ty_c (p : List Nat) (k : Nat) : Nat := (0 :: p).getD k 0
def ty_e (p : List Nat) (k : Nat) : Nat × Nat := td_nm (ty_c p k) (ty_c p (k + 1))
def ty_L (n : Nat) (p : List Nat) (yL : Nat → Int32) : Prop := ∀ k, k < n → yL k = nI (ty_c p k)
theorem ty_pe : ∀ (l : List Nat) (x : Nat), td_pe (x :: (l ++ [0])) = (List.range (l.length + 1)).map (fun j => td_nm ((x :: l).getD j 0) ((x :: l).getD (j + 1) 0))
  | [], x => rfl
  | y :: l, x => by
    show td_nm x y :: td_pe (y :: (l ++ [0])) = _
    rw [ty_pe l y, List.length_cons, List.range_succ_eq_map (n := l.length + 1), List.map_cons, List.map_map]
    rfl
theorem ty_T {n : Nat} {p : List Nat} (h : td_P n p) : td_T p = (List.range n).map (ty_e p) := by
  show td_pe (0 :: (p ++ [0])) = _
  rw [ty_pe p 0, h.1]
  rfl
theorem ty_c_lt {n : Nat} {p : List Nat} (hn : 3 ≤ n) (h : td_P n p) (k : Nat) : ty_c p k < n := by
  unfold ty_c
  rw [List.getD_eq_getElem?_getD]
  by_cases q : k < (0 :: p).length
  · rw [List.getElem?_eq_getElem q]
    show (0 :: p)[k] < n
    rcases List.mem_cons.mp (List.getElem_mem q) with r | r
    · rw [r]; omega
    · exact (h.2.2 _ r).2
  · rw [List.getElem?_eq_none (by omega)]
    show 0 < n
    omega
theorem ty_c_end {n : Nat} {p : List Nat} (h : td_P n p) : ty_c p n = 0 := by
  unfold ty_c
  rw [List.getD_eq_getElem?_getD, List.getElem?_eq_none (by rw [List.length_cons, h.1]; exact Nat.le_refl _)]
  rfl

section
variable {yn yt : Int32} {yF yW yL : Nat → Int32}
theorem wy_nth {post : Int32 → Prop} {left skip : Nat} (hl : left < 128) (hs : skip < 1000) (K : post (nI (td_nth left skip))) : wpY_nth post (yn, yt, yF, yW, yL) (nI left) (nI skip) := by
  show ∃ n5, wY_nth_5 post (nI left) (nI skip) yn yt yF yW yL n5 (nI 0) (nI 0)
  refine pk_loop (σ := Nat) (fun k i s => wY_nth_5 post (nI left) (nI skip) yn yt yF yW yL k (nI s) (nI i)) (fun i s => s ≤ i ∧ td_nt left skip (7 - i) s = td_nth left skip) 7 0 0 (Nat.zero_le _) ⟨Nat.le_refl _, rfl⟩ ?_ ?_
  · intro k s ⟨_, hI⟩
    refine br_t (by decide) ?_
    rw [← hI] at K
    exact K
  · intro k i s hi ⟨hsi, hI⟩ ih
    rw [show 7 - i = (6 - i) + 1 by omega] at hI
    have hI : (if left / 2 ^ (6 - (6 - i)) % 2 = 1 then (if s = skip then 6 - (6 - i) else td_nt left skip (6 - i) (s + 1)) else td_nt left skip (6 - i) s) = td_nth left skip := hI
    rw [show 6 - (6 - i) = i by omega] at hI
    refine br_f (nI_ge (b := 7) hi (by decide)) (br_c (fun h => ?_) (fun h => ?_))
    · rw [ty_tst left hl i hi] at h
      rw [if_pos h] at hI
      refine pk_eq s skip (fun q => ?_) (fun q => ?_)
      · rw [if_pos q] at hI
        rw [hI]; exact K
      · rw [if_neg q] at hI
        exact nm_r (nI_1 s) (nm_r (nI_1 i) (ih (s + 1) ⟨by omega, by rw [show 7 - (i + 1) = 6 - i by omega]; exact hI⟩))
    · rw [ty_tst left hl i hi] at h
      rw [if_neg h] at hI
      exact nm_r (nI_1 i) (ih s ⟨by omega, by rw [show 7 - (i + 1) = 6 - i by omega]; exact hI⟩)

theorem wy_spell {post : SY → Prop} {n t : Nat} (h3 : 3 ≤ n) (h7 : n ≤ 7) (ht : t < td_fac (n - 1))
    (K : ∀ yL', ty_L n (td_sp n t) yL' → post (nI n, nI (td_fac (n - 1)), yF, yW, yL')) : wpY_spell post (nI n, nI (td_fac (n - 1)), yF, yW, yL) (nI t) := by
  refine nm_r (ty_full n (by omega) h3) (nm_e ?_)
  have hpw := td_pw n (by omega) h3
  have hf7 := ty_fac (n - 1) (by omega)
  show ∃ n27, wY_spell_27 post (nI n) (nI (td_fac (n - 1))) n27 (nI t) (nI (td_fac (n - 1))) (nI (2 ^ n - 2)) (nI 1) yF yW (upd yL 0 0)
  refine pk_loop (σ := Nat × Nat × (Nat → Int32)) (fun k i s => wY_spell_27 post (nI n) (nI (td_fac (n - 1))) k (nI s.1) (nI (td_fac (n - i))) (nI s.2.1) (nI i) yF yW s.2.2)
    (fun i s => 1 ≤ i ∧ s.1 < td_fac (n - i) ∧ s.2.1 < 128 ∧ td_pop s.2.1 = n - i ∧ ∃ q, q.length + 1 = i ∧ td_sp n t = q ++ td_spg (n - i) s.1 s.2.1 ∧ ∀ k, k < i → s.2.2 k = nI ((0 :: q).getD k 0)) n 1 (t, 2 ^ n - 2, upd yL 0 0) (by omega) ⟨by omega, ht, hpw.1, hpw.2, [], rfl, rfl, fun k hk => ?_⟩ ?_ ?_
  · rw [show k = 0 by omega]
    rfl
  · intro k s ⟨_, _, _, _, q, hq, hp, hL⟩
    refine br_t (nI_le (Nat.le_refl _) (by omega)) (K s.2.2 (fun k hk => ?_))
    rw [Nat.sub_self] at hp
    have hp : td_sp n t = q ++ [] := hp
    rw [List.append_nil] at hp
    rw [hL k hk, hp]
    rfl
  · intro k i s hi ⟨h1, hr, hl, hpop, q, hq, hp, hL⟩ ih
    obtain ⟨d, hd⟩ : ∃ d, n - i = d + 1 := ⟨n - i - 1, by omega⟩
    have hd' : n - (i + 1) = d := by omega
    have hfd := td_fac_pos d
    have hfd7 := ty_fac d (by omega)
    have hfd8 := ty_fac (d + 1) (by omega)
    rw [hd] at hr hpop hp
    have e1 : nI n - nI i = nI (d + 1) := by rw [pk_sub (by omega), hd]
    have e2 : nI (td_fac (d + 1)) / nI (d + 1) = nI (td_fac d) := by
      rw [pk_div (by omega) (by omega) (by omega)]
      show nI ((d + 1) * td_fac d / (d + 1)) = _
      rw [Nat.mul_div_cancel_left _ (by omega)]
    have e3 : nI s.1 / nI (td_fac d) = nI (s.1 / td_fac d) := pk_div (by omega) hfd (by omega)
    have e4 : nI s.1 - nI s.1 / nI (td_fac d) * nI (td_fac d) = nI (s.1 % td_fac d) := pk_rem (by omega) hfd (by omega)
    have hsk : s.1 / td_fac d < d + 1 := Nat.div_lt_of_lt_mul (by rw [Nat.mul_comm]; exact hr)
    have t1 := td_t1 s.2.1 hl (s.1 / td_fac d) (by omega) (by omega)
    have t2 := td_t2 s.2.1 hl _ t1.1 t1.2
    have hge := nI_ge hi (by omega)
    show wY_spell_27 post (nI n) (nI (td_fac (n - 1))) (k + 1) (nI s.1) (nI (td_fac (n - i))) (nI s.2.1) (nI i) yF yW s.2.2
    rw [hd]
    refine br_f hge (br_f hge ?_)
    rw [e1, e2]
    refine ⟨nI_ne0 (by omega) (by omega), ?_⟩
    unfold wY_spell_58
    refine br_f (nI_nle hfd (by omega)) ⟨nI_ne0 hfd (by omega), ?_⟩
    unfold wY_spell_70
    refine br_f (nI_nle hfd (by omega)) ⟨nI_ne0 hfd (by omega), ?_⟩
    rw [e4, e3]
    unfold wY_spell_83
    refine wy_nth hl (by omega) ⟨tx_in (by omega) (by omega), nm_e (nm_r (ty_clr s.2.1 hl _ t1.1) (nm_r (nI_1 i) ?_))⟩
    rw [tx_c (by omega)]
    have ih' := ih (s.1 % td_fac d, td_clr s.2.1 (td_nth s.2.1 (s.1 / td_fac d)), upd s.2.2 i (nI (td_nth s.2.1 (s.1 / td_fac d)))) ⟨by omega, by rw [hd']; exact Nat.mod_lt _ hfd, t2.1, by rw [hd']; show td_pop (td_clr _ _) = d; omega, q ++ [td_nth s.2.1 (s.1 / td_fac d)], by simp; omega, ?_, fun j hj => ?_⟩
    · rw [hd'] at ih'
      exact ih'
    · rw [hp, hd']
      show q ++ (_ :: td_spg d _ _) = _
      rw [List.append_assoc]
      rfl
    · show upd s.2.2 i (nI _) j = nI ((0 :: q ++ [_]).getD j 0)
      by_cases r : j = i
      · subst r
        rw [pk_us, ← hq]
        simp
      · rw [pk_un r, hL j (by omega), List.getD_eq_getElem?_getD, List.getD_eq_getElem?_getD, List.getElem?_append_left (by rw [List.length_cons]; omega)]

theorem wy_next {post : Int32 → Prop} {n k : Nat} {p : List Nat} (h7 : n ≤ 7) (hP : td_P n p) (hL : ty_L n p yL) (hk : k < n) (K : post (nI (ty_c p (k + 1)))) : wpY_next post (nI n, yt, yF, yW, yL) (nI k) := by
  unfold wpY_next
  dsimp only
  rw [nI_1, tx_c (by omega)]
  refine pk_le n (k + 1) (fun h => ?_) (fun h => ⟨tx_in (by omega) (by omega), ?_⟩)
  · rw [show k + 1 = n by omega, ty_c_end hP] at K
    exact K
  · rw [hL (k + 1) (by omega)]
    exact K

theorem ty_sym {n : Nat} {p : List Nat} {aA : Nat → Int32} (h3 : 3 ≤ n) (h7 : n ≤ 7) (hP : td_P n p) (hs : ∀ a b, a < 7 → b < 7 → aA (a * 7 + b) = aA (b * 7 + a)) (k : Nat) : aA (ty_c p k * 7 + ty_c p (k + 1)) = td_rl aA (ty_e p k) := by
  have h1 := ty_c_lt h3 hP k
  have h2 := ty_c_lt h3 hP (k + 1)
  unfold ty_e
  rcases td_nm_or (ty_c p k) (ty_c p (k + 1)) with q | q <;> rw [q]
  · rfl
  · exact hs _ _ (by omega) (by omega)

theorem wy_cost {post : Int32 → Prop} {n : Nat} {p : List Nat} (h3 : 3 ≤ n) (h7 : n ≤ 7) (hP : td_P n p) (hLk : ty_L n p yL) (hF : td_LOK yF) (K : post (Int32.ofInt (td_cost yF p))) : wpY_cost post (nI n, yt, yF, yW, yL) := by
  show ∃ n4, wY_cost_4 post (nI n) yt yF yW yL n4 0 (nI 0)
  refine pk_loop (σ := Int32) (fun k i s => wY_cost_4 post (nI n) yt yF yW yL k s (nI i)) (fun i s => s = Int32.ofInt (td_sum (td_len yF) ((List.range i).map (ty_e p)))) n 0 0 (Nat.zero_le _) rfl ?_ ?_
  · intro k s hI
    refine br_t (nI_le (Nat.le_refl _) (by omega)) ?_
    rw [hI, ← ty_T hP]
    exact K
  · intro k i s hi hI ih
    have h1 := ty_c_lt h3 hP i
    have h2 := ty_c_lt h3 hP (i + 1)
    refine br_f (nI_ge hi (by omega)) ⟨tx_in (by omega) (by omega), wy_next h7 hP hLk hi ?_⟩
    rw [tx_c (by omega), hLk i hi, tx_ix, tx_c (by omega), ty_sym h3 h7 hP (fun a b ha hb => (hF a b ha hb).2.2) i]
    refine ⟨tx_in (by omega) (by omega), nm_e (nm_r (nI_1 i) (ih _ ?_))⟩
    rw [hI, List.range_succ, List.map_append, td_sum_app]
    show _ = Int32.ofInt (_ + (td_len yF (ty_e p i).1 (ty_e p i).2 + 0))
    rw [Int.add_zero, Int32.ofInt_add]
    unfold td_len
    rw [Int32.ofInt_toInt]
    rfl
end
end
section
/-! Y: allowed, has, least -/
def ty_ct (aW : Nat → Int32) (v : Int32) (E : List (Nat × Nat)) : Nat := (E.filter (fun e => decide (td_rl aW e = v))).length
theorem ty_ct_app (aW : Nat → Int32) (v : Int32) (E F : List (Nat × Nat)) : ty_ct aW v (E ++ F) = ty_ct aW v E + ty_ct aW v F := by
  unfold ty_ct
  rw [List.filter_append, List.length_append]
theorem ty_ct_one (aW : Nat → Int32) (v : Int32) (e : Nat × Nat) : ty_ct aW v [e] = if td_rl aW e = v then 1 else 0 := by
  unfold ty_ct
  by_cases q : td_rl aW e = v
  · rw [if_pos q, List.filter_cons_of_pos (by rw [q]; simp)]; rfl
  · rw [if_neg q, List.filter_cons_of_neg (by simp [q])]; rfl
theorem ty_ct_le (aW : Nat → Int32) (v : Int32) (E : List (Nat × Nat)) : ty_ct aW v E ≤ E.length := List.length_filter_le _ _
/-- all links with the greater city below k, as the reference goes through them -/
def ty_row (a b : Nat) : List (Nat × Nat) := (List.range b).map (fun c => (c, a))
def ty_PL : Nat → List (Nat × Nat)
  | 0 => []
  | k + 1 => ty_PL k ++ ty_row k k
theorem ty_row_succ (a b : Nat) : ty_row a (b + 1) = ty_row a b ++ [(b, a)] := by
  unfold ty_row
  rw [List.range_succ, List.map_append]
  rfl
theorem ty_PL_mem : ∀ (k a b : Nat), (a, b) ∈ ty_PL k ↔ (a < b ∧ b < k)
  | 0, a, b => by simp [ty_PL]
  | k + 1, a, b => by
    show (a, b) ∈ ty_PL k ++ ty_row k k ↔ _
    rw [List.mem_append, ty_PL_mem k a b]
    unfold ty_row
    rw [List.mem_map]
    constructor
    · intro h
      rcases h with h | ⟨c, h1, h2⟩
      · omega
      · rw [List.mem_range] at h1
        rw [Prod.mk.injEq] at h2
        omega
    · intro h
      by_cases q : b < k
      · exact Or.inl ⟨h.1, q⟩
      · exact Or.inr ⟨a, List.mem_range.mpr (by omega), by rw [show k = b by omega]⟩
theorem ty_PL_nodup : ∀ k, k < 8 → (ty_PL k).Nodup := by decide +kernel
theorem ty_PL_len : ∀ k, k < 8 → (ty_PL k).length ≤ 21 := by decide +kernel

theorem ty_kept {n : Nat} {aW : Nat → Int32} {p : List Nat} (h3 : 3 ≤ n) (h7 : n ≤ 7) (hP : td_P n p) : ty_ct aW 1 (td_T p) = ty_ct aW 1 (ty_PL n) ↔ (∀ a b, a < b → b < n → aW (a * 7 + b) = 1 → (a, b) ∈ td_T p) := by
  have hsub : ∀ e, e ∈ (td_T p).filter (fun e => decide (td_rl aW e = 1)) → e ∈ (ty_PL n).filter (fun e => decide (td_rl aW e = 1)) := by
    intro e he
    rw [List.mem_filter] at he ⊢
    have := td_T_mem h3 hP he.1
    exact ⟨(ty_PL_mem n e.1 e.2).mpr this, he.2⟩
  have hn1 : ((td_T p).filter (fun e => decide (td_rl aW e = 1))).Nodup := List.Nodup.sublist List.filter_sublist (td_T_nodup h3 hP)
  have hn2 : ((ty_PL n).filter (fun e => decide (td_rl aW e = 1))).Nodup := List.Nodup.sublist List.filter_sublist (ty_PL_nodup n (by omega))
  constructor
  · intro h a b ab bn hr
    obtain ⟨R, hR⟩ := td_compl _ _ hn1 hsub
    have hl := hR.length_eq
    rw [List.length_append] at hl
    have h : ((td_T p).filter (fun e => decide (td_rl aW e = 1))).length = ((ty_PL n).filter (fun e => decide (td_rl aW e = 1))).length := h
    rw [List.length_eq_zero_iff.mp (show R.length = 0 by omega), List.append_nil] at hR
    have hm : (a, b) ∈ (ty_PL n).filter (fun e => decide (td_rl aW e = 1)) := List.mem_filter.mpr ⟨(ty_PL_mem n a b).mpr ⟨ab, bn⟩, decide_eq_true hr⟩
    exact (List.mem_filter.mp (hR.mem_iff.mpr hm)).1
  · intro h
    refine Nat.le_antisymm (hn1.length_le_of_subset hsub) (hn2.length_le_of_subset ?_)
    intro e he
    rw [List.mem_filter] at he ⊢
    have := (ty_PL_mem n e.1 e.2).mp he.1
    exact ⟨h e.1 e.2 this.1 this.2 (of_decide_eq_true he.2), he.2⟩
theorem ty_bars {aW : Nat → Int32} {E : List (Nat × Nat)} : ty_ct aW 2 E = 0 ↔ ∀ e, e ∈ E → td_rl aW e ≠ 2 := by
  unfold ty_ct
  rw [List.length_eq_zero_iff, List.filter_eq_nil_iff]
  simp only [decide_eq_true_iff]

section
variable {yn yt : Int32} {yF yW yL : Nat → Int32}
theorem wy_allowed {post : Int32 → Prop} {n : Nat} {p : List Nat} (h3 : 3 ≤ n) (h7 : n ≤ 7) (hP : td_P n p) (hLk : ty_L n p yL) (hW : td_ROK yW) (K0 : ¬ td_Cons n yW p → post 0) (K1 : td_Cons n yW p → post 1) : wpY_allowed post (nI n, yt, yF, yW, yL) := by
  have hsym := fun a b (ha : a < 7) (hb : b < 7) => (hW a b ha hb).2
  show ∃ n6, wY_allowed_6 post (nI n) yt yF yW yL n6 (nI 0) (nI 0) (nI 0)
  refine pk_loop (σ := Unit) (fun k i _ => wY_allowed_6 post (nI n) yt yF yW yL k (nI (ty_ct yW 2 ((List.range i).map (ty_e p)))) (nI (ty_ct yW 1 ((List.range i).map (ty_e p)))) (nI i)) (fun _ _ => True) n 0 () (Nat.zero_le _) trivial ?_ ?_
  · intro k _ _
    try dsimp only
    rw [← ty_T hP]
    refine br_t (nI_le (Nat.le_refl _) (by omega)) ?_
    refine pk_loop (σ := Unit) (fun k i _ => wY_allowed_75 post (nI (ty_ct yW 2 (td_T p))) (nI (ty_ct yW 1 (td_T p))) (nI n) yt yF yW yL k (nI (ty_ct yW 1 (ty_PL i))) (nI i)) (fun _ _ => True) n 0 () (Nat.zero_le _) trivial ?_ ?_
    · intro k _ _
      have l1 := ty_ct_le yW 2 (td_T p)
      have l2 := ty_ct_le yW 1 (td_T p)
      have l3 := ty_ct_le yW 1 (ty_PL n)
      have l4 := ty_PL_len n (by omega)
      rw [td_T_len hP] at l1 l2
      refine br_t (nI_le (Nat.le_refl _) (by omega)) (pk_eq (ty_ct yW 2 (td_T p)) 0 (fun q => ?_) (fun q => K0 (fun hc => q (ty_bars.mpr hc.1))))
      refine pk_eq (ty_ct yW 1 (td_T p)) (ty_ct yW 1 (ty_PL n)) (fun r => K1 ⟨ty_bars.mp q, (ty_kept h3 h7 hP).mp r⟩) (fun r => K0 (fun hc => r ((ty_kept h3 h7 hP).mpr hc.2)))
    · intro k i _ hi _ ih
      refine br_f (nI_ge hi (by omega)) ?_
      show ∃ n87, wY_allowed_87 post (wY_allowed_75 post (nI (ty_ct yW 2 (td_T p))) (nI (ty_ct yW 1 (td_T p))) (nI n) yt yF yW yL k) (nI (ty_ct yW 2 (td_T p))) (nI (ty_ct yW 1 (td_T p))) (nI i) (nI n) yt yF yW yL n87 (nI (ty_ct yW 1 (ty_PL i))) (nI 0)
      refine pk_loop (σ := Unit) (fun k' j _ => wY_allowed_87 post (wY_allowed_75 post (nI (ty_ct yW 2 (td_T p))) (nI (ty_ct yW 1 (td_T p))) (nI n) yt yF yW yL k) (nI (ty_ct yW 2 (td_T p))) (nI (ty_ct yW 1 (td_T p))) (nI i) (nI n) yt yF yW yL k' (nI (ty_ct yW 1 (ty_PL i) + ty_ct yW 1 (ty_row i j))) (nI j)) (fun _ _ => True) i 0 () (Nat.zero_le _) trivial ?_ ?_
      · intro k' _ _
        refine br_t (nI_le (Nat.le_refl _) (by omega)) (nm_r (nI_1 i) ?_)
        have := ih () trivial
        try dsimp only at this
        rw [show ty_PL (i + 1) = ty_PL i ++ ty_row i i from rfl, ty_ct_app] at this
        exact this
      · intro k' j _ hj _ ih'
        refine br_f (nI_ge hj (by omega)) ?_
        have ih' := ih' () trivial
        try dsimp only at ih'
        rw [ty_row_succ, ty_ct_app, ty_ct_one] at ih'
        rw [tx_ix, tx_c (by omega), hsym i j (by omega) (by omega)]
        refine ⟨tx_in (by omega) (by omega), br_c (fun q => ?_) (fun q => ?_)⟩
        · rw [if_pos (show td_rl yW (j, i) = 1 from q), ← Nat.add_assoc] at ih'
          exact nm_r (nI_1 _) (nm_r (nI_1 j) ih')
        · rw [if_neg (show ¬ td_rl yW (j, i) = 1 from q)] at ih'
          exact nm_r (Int32.add_zero _) (nm_r (nI_1 j) ih')
  · intro k i _ hi _ ih
    have h1 := ty_c_lt h3 hP i
    have h2 := ty_c_lt h3 hP (i + 1)
    refine br_f (nI_ge hi (by omega)) ⟨tx_in (by omega) (by omega), wy_next h7 hP hLk hi ?_⟩
    rw [tx_c (by omega), hLk i hi, tx_ix, tx_c (by omega), ty_sym h3 h7 hP hsym i]
    have ih := ih () trivial
    try dsimp only at ih
    rw [List.range_succ, List.map_append, ty_ct_app, ty_ct_app] at ih
    have s2 : ty_ct yW 2 (List.map (ty_e p) [i]) = if td_rl yW (ty_e p i) = 2 then 1 else 0 := ty_ct_one yW 2 (ty_e p i)
    have s1 : ty_ct yW 1 (List.map (ty_e p) [i]) = if td_rl yW (ty_e p i) = 1 then 1 else 0 := ty_ct_one yW 1 (ty_e p i)
    rw [s1, s2] at ih
    refine ⟨tx_in (by omega) (by omega), nm_e (br_c (fun q => ?_) (fun q => ?_))⟩
    · have q1 : ¬ td_rl yW (ty_e p i) = 1 := by rw [q]; decide
      rw [if_pos q, if_neg q1] at ih
      unfold wY_allowed_48
      exact nm_r (nI_1 _) (br_f q1 (nm_r (Int32.add_zero _) (nm_r (nI_1 i) ih)))
    · rw [if_neg q] at ih
      unfold wY_allowed_48
      refine nm_r (Int32.add_zero _) (br_c (fun q1 => ?_) (fun q1 => ?_))
      · rw [if_pos q1] at ih
        exact nm_r (nI_1 _) (nm_r (nI_1 i) ih)
      · rw [if_neg q1] at ih
        exact nm_r (Int32.add_zero _) (nm_r (nI_1 i) ih)

theorem ty_nm_eq {a b c d : Nat} : td_nm c d = td_nm a b ↔ ((c = a ∧ d = b) ∨ (c = b ∧ d = a)) := by
  constructor
  · intro h
    rcases td_nm_or c d with p | p <;> rcases td_nm_or a b with q | q <;> rw [p, q, Prod.mk.injEq] at h <;> omega
  · intro h
    rcases h with h | h
    · rw [h.1, h.2]
    · rw [h.1, h.2, td_nm_comm]
theorem wy_has {post : Int32 → Prop} {n a b : Nat} {p : List Nat} (h3 : 3 ≤ n) (h7 : n ≤ 7) (hP : td_P n p) (hLk : ty_L n p yL) (ha : a < n) (hb : b < n) (K : post (if td_nm a b ∈ td_T p then 1 else 0)) : wpY_has post (nI n, yt, yF, yW, yL) (nI a) (nI b) := by
  show ∃ n5, wY_has_5 post (nI a) (nI b) (nI n) yt yF yW yL n5 0 (nI 0)
  refine pk_loop (σ := Unit) (fun k i _ => wY_has_5 post (nI a) (nI b) (nI n) yt yF yW yL k (if td_nm a b ∈ (List.range i).map (ty_e p) then 1 else 0) (nI i)) (fun _ _ => True) n 0 () (Nat.zero_le _) trivial ?_ ?_
  · intro k _ _
    try dsimp only
    rw [← ty_T hP]
    refine br_t (nI_le (Nat.le_refl _) (by omega)) ⟨?_, K⟩
    by_cases q : td_nm a b ∈ td_T p
    · rw [if_pos q]; rfl
    · rw [if_neg q]; rfl
  · intro k i _ hi _ ih
    have h1 := ty_c_lt h3 hP i
    have h2 := ty_c_lt h3 hP (i + 1)
    have ih := ih () trivial
    try dsimp only at ih ⊢
    have hmem : td_nm a b ∈ (List.range (i + 1)).map (ty_e p) ↔ (td_nm a b ∈ (List.range i).map (ty_e p) ∨ td_nm a b = ty_e p i) := by
      rw [List.range_succ, List.map_append, List.mem_append]
      simp
    have hgo : ∀ v : Int32, v = (if td_nm a b ∈ (List.range (i + 1)).map (ty_e p) then 1 else 0) → ∀ x, x = nI i + 1 → wY_has_5 post (nI a) (nI b) (nI n) yt yF yW yL k v x := by
      intro v hv
      rw [hv]
      exact nm_r (nI_1 i) ih
    refine br_f (nI_ge hi (by omega)) ⟨tx_in (by omega) (by omega), nm_e (wy_next h7 hP hLk hi ?_)⟩
    rw [tx_c (by omega), hLk i hi]
    by_cases q : td_nm a b ∈ (List.range i).map (ty_e p)
    · rw [if_pos q]
      refine br_f (by decide) (hgo 1 ?_)
      rw [if_pos (hmem.mpr (Or.inl q))]
    · rw [if_neg q]
      have hmem' : td_nm a b ∈ (List.range (i + 1)).map (ty_e p) ↔ ((ty_c p i = a ∧ ty_c p (i + 1) = b) ∨ (ty_c p i = b ∧ ty_c p (i + 1) = a)) := by
        rw [hmem, ← ty_nm_eq]
        exact ⟨fun h => (h.resolve_left q).symm, fun h => Or.inr h.symm⟩
      have h47 : ¬ (ty_c p i = a ∧ ty_c p (i + 1) = b) → wY_has_47 post (wY_has_5 post (nI a) (nI b) (nI n) yt yF yW yL k) (nI a) (nI b) (nI i) (nI (ty_c p i)) (nI (ty_c p (i + 1))) (nI n) yt yF yW yL := by
        intro hne
        unfold wY_has_47
        refine pk_eq (ty_c p i) b (fun e1 => pk_eq (ty_c p (i + 1)) a (fun e2 => hgo 1 ?_) (fun e2 => hgo 0 ?_)) (fun e1 => hgo 0 ?_)
        · rw [if_pos (hmem'.mpr (Or.inr ⟨e1, e2⟩))]
        · rw [if_neg (fun h => (hmem'.mp h).elim hne (fun h => e2 h.2))]
        · rw [if_neg (fun h => (hmem'.mp h).elim hne (fun h => e1 h.1))]
      refine br_t rfl (pk_eq (ty_c p i) a (fun e1 => pk_eq (ty_c p (i + 1)) b (fun e2 => hgo 1 ?_) (fun e2 => h47 (fun h => e2 h.2))) (fun e1 => h47 (fun h => e1 h.1)))
      rw [if_pos (hmem'.mpr (Or.inl ⟨e1, e2⟩))]

/-- the tours that a question is about: w = 2 all, 1 with the link, 0 without -/
def ty_C (n : Nat) (yW : Nat → Int32) (a b w : Nat) (p : List Nat) : Prop := (w = 2 ∨ (td_nm a b ∈ td_T p ↔ w = 1)) ∧ td_Cons n yW p
def ty_MT (n : Nat) (yF : Nat → Int32) (C : List Nat → Prop) (t : Nat) (r : Int32) : Prop :=
  (r = -1 ∧ ∀ t', t' < t → ¬ C (td_sp n t')) ∨ (∃ t0, t0 < t ∧ C (td_sp n t0) ∧ r.toInt = td_cost yF (td_sp n t0) ∧ ∀ t', t' < t → C (td_sp n t') → td_cost yF (td_sp n t0) ≤ td_cost yF (td_sp n t'))
theorem ty_MT_end {n : Nat} {C : List Nat → Prop} {r : Int32} (h3 : 3 ≤ n) (h7 : n ≤ 7) (h : ty_MT n yF C (td_fac (n - 1)) r) : td_Min n yF C r := by
  rcases h with ⟨h1, h2⟩ | ⟨t0, h1, h2, h4, h5⟩
  · refine Or.inl ⟨h1, fun p hP hc => ?_⟩
    obtain ⟨t, ht, e⟩ := td_sp_all h3 h7 hP
    rw [← e] at hc
    exact h2 t ht hc
  · refine Or.inr ⟨td_sp n t0, td_sp_P h3 h7 h1, h2, h4, fun p hP hc => ?_⟩
    obtain ⟨t, ht, e⟩ := td_sp_all h3 h7 hP
    rw [← e] at hc ⊢
    exact h5 t ht hc
theorem ty_MT_skip {n t : Nat} {C : List Nat → Prop} {r : Int32} (h : ty_MT n yF C t r) (hc : ¬ C (td_sp n t)) : ty_MT n yF C (t + 1) r := by
  have k : ∀ t', t' < t + 1 → C (td_sp n t') → t' < t := fun t' ht hC => by
    by_cases q : t' = t
    · rw [q] at hC; exact absurd hC hc
    · omega
  rcases h with ⟨h1, h2⟩ | ⟨t0, h1, h2, h4, h5⟩
  · exact Or.inl ⟨h1, fun t' ht hC => h2 t' (k t' ht hC) hC⟩
  · exact Or.inr ⟨t0, by omega, h2, h4, fun t' ht hC => h5 t' (k t' ht hC) hC⟩
theorem ty_MT_take {n t : Nat} {C : List Nat → Prop} {r : Int32} (hc : C (td_sp n t)) (hr : r.toInt = td_cost yF (td_sp n t)) (hm : ∀ t', t' < t → C (td_sp n t') → td_cost yF (td_sp n t) ≤ td_cost yF (td_sp n t')) : ty_MT n yF C (t + 1) r := by
  refine Or.inr ⟨t, by omega, hc, hr, fun t' ht hC => ?_⟩
  by_cases q : t' = t
  · rw [q]; exact Int.le_refl _
  · exact hm t' (by omega) hC

theorem wy_least {post : Int32 → SY → Prop} {n a b w : Nat} (h3 : 3 ≤ n) (h7 : n ≤ 7) (hF : td_LOK yF) (hW : td_ROK yW) (ha : a < n) (hb : b < n) (hw : w ≤ 2)
    (K : ∀ r yL', td_Min n yF (ty_C n yW a b w) r → post r (nI n, nI (td_fac (n - 1)), yF, yW, yL')) : wpY_least post (nI n, nI (td_fac (n - 1)), yF, yW, yL) (nI a) (nI b) (nI w) := by
  have hf7 := ty_fac (n - 1) (by omega)
  show ∃ n6, wY_least_6 post (nI a) (nI b) (nI w) n6 (-1) (nI 0) (nI n) (nI (td_fac (n - 1))) yF yW yL
  refine pk_loop (σ := Int32 × (Nat → Int32)) (fun k i s => wY_least_6 post (nI a) (nI b) (nI w) k s.1 (nI i) (nI n) (nI (td_fac (n - 1))) yF yW s.2) (fun i s => ty_MT n yF (ty_C n yW a b w) i s.1) (td_fac (n - 1)) 0 (-1, yL) (Nat.zero_le _) (Or.inl ⟨rfl, fun t' ht => absurd ht (Nat.not_lt_zero t')⟩) ?_ ?_
  · intro k s hI
    exact br_t (nI_le (Nat.le_refl _) (by omega)) (K s.1 s.2 (ty_MT_end h3 h7 hI))
  · intro k t s ht hI ih
    refine br_f (nI_ge ht (by omega)) (br_f (nI_ge (b := 720) (by omega) (by decide)) ?_)
    refine wy_spell h3 h7 ht (fun yL' hLk => ?_)
    have hP := td_sp_P h3 h7 ht
    have hskip : ¬ ty_C n yW a b w (td_sp n t) → ∀ x, x = nI t + 1 → wY_least_6 post (nI a) (nI b) (nI w) k s.1 x (nI n) (nI (td_fac (n - 1))) yF yW yL' := fun hc => nm_r (nI_1 t) (ih (s.1, yL') (ty_MT_skip hI hc))
    have h53 : (w = 2 ∨ (td_nm a b ∈ td_T (td_sp n t) ↔ w = 1)) → wY_least_53 post (wY_least_6 post (nI a) (nI b) (nI w) k) (nI a) (nI b) (nI w) s.1 (nI t) (nI n) (nI (td_fac (n - 1))) yF yW yL' := by
      intro hwc
      unfold wY_least_53
      refine wy_allowed h3 h7 hP hLk hW (fun hc => br_t rfl (hskip (fun h => hc h.2))) (fun hc => br_f (by decide) ?_)
      have hC : ty_C n yW a b w (td_sp n t) := ⟨hwc, hc⟩
      have hrg := td_cost_rng h3 h7 hF hP
      have hto : (Int32.ofInt (td_cost yF (td_sp n t))).toInt = td_cost yF (td_sp n t) := Int32.toInt_ofInt_of_le (by omega) (by omega)
      refine wy_cost h3 h7 hP hLk hF ?_
      rcases hI with ⟨h1, h2⟩ | ⟨t0, h1, h2, h4, h5⟩
      · refine br_t (by rw [h1]; decide) (nm_r (nI_1 t) (ih (_, yL') (ty_MT_take hC hto (fun t' ht' hC' => absurd hC' (h2 t' ht')))))
      · have hr0 := td_cost_rng h3 h7 hF (td_sp_P h3 h7 (show t0 < td_fac (n - 1) by omega))
        refine br_f (by rw [Int32.lt_iff_toInt_lt, Int32.toInt_zero]; omega) (br_c (fun hle => ?_) (fun hle => ?_))
        · rw [Int32.le_iff_toInt_le, hto, h4] at hle
          refine nm_r (nI_1 t) (ih (s.1, yL') (Or.inr ⟨t0, by omega, h2, h4, fun t' ht' hC' => ?_⟩))
          by_cases q : t' = t
          · rw [q]; exact hle
          · exact h5 t' (by omega) hC'
        · rw [Int32.le_iff_toInt_le, hto, h4] at hle
          refine nm_r (nI_1 t) (ih (_, yL') (ty_MT_take hC hto (fun t' ht' hC' => ?_)))
          have := h5 t' ht' hC'
          omega
    refine pk_eq w 2 (fun q => h53 (Or.inl q)) (fun q => ?_)
    refine wy_has h3 h7 hP hLk ha hb ?_
    refine pk_eq w 1 (fun q1 => ?_) (fun q1 => ?_)
    · unfold wY_least_50
      by_cases r : td_nm a b ∈ td_T (td_sp n t)
      · rw [if_pos r]
        exact br_t rfl (h53 (Or.inr ⟨fun _ => q1, fun _ => r⟩))
      · rw [if_neg r]
        exact br_f (by decide) (hskip (fun h => h.1.elim q (fun h => r (h.mpr q1))))
    · unfold wY_least_50
      by_cases r : td_nm a b ∈ td_T (td_sp n t)
      · rw [if_pos r]
        exact br_f (by decide) (hskip (fun h => h.1.elim q (fun h => q1 (h.mp r))))
      · rw [if_neg r]
        exact br_t rfl (h53 (Or.inr ⟨fun h => absurd h r, fun h => absurd h q1⟩))
end
end
section
/-! both: links, single writes, shift; X: bestWith, bestWithout -/
section
variable {ft fl fk fo : Int32} {aL aR aN aP aG aD aC aB aV aT : Nat → Int32} {yt : Int32} {yF yW yL : Nat → Int32}

def td_lnk (n : Nat) (v1 v2 : Int32) : Prop := ∃ a b, a < n ∧ b < n ∧ a ≠ b ∧ v1 = nI a ∧ v2 = nI b
theorem td_lnk_no {n : Nat} {v1 v2 : Int32} (h7 : n ≤ 7) {A : Prop} (hno : ¬ td_lnk n v1 v2) (h1 : ¬ v1 < 0) (h2 : ¬ nI n ≤ v1) (h4 : ¬ v2 < 0) (h5 : ¬ nI n ≤ v2) (h6 : ¬ v1 = v2) : A := by
  obtain ⟨a, ha, ea, _⟩ := pk_mu h1 h2 (by omega)
  obtain ⟨b, hb, eb, _⟩ := pk_mu h4 h5 (by omega)
  exact absurd ⟨a, b, ha, hb, fun q => h6 (by rw [ea, eb, q]), ea, eb⟩ hno
theorem wx_isLink0 {post : Int32 → Prop} {n : Nat} {v1 v2 : Int32} (h7 : n ≤ 7) (hno : ¬ td_lnk n v1 v2) (K : post 0) : wpX_isLink post (nI n, ft, fl, fk, fo, aL, aR, aN, aP, aG, aD, aC, aB, aV, aT) v1 v2 :=
  br_c (fun _ => K) (fun h1 => br_c (fun _ => K) (fun h2 => br_c (fun _ => K) (fun h4 => br_c (fun _ => K) (fun h5 => br_c (fun _ => K) (fun h6 => td_lnk_no h7 hno h1 h2 h4 h5 h6)))))
theorem wy_link0 {post : Int32 → Prop} {n : Nat} {v1 v2 : Int32} (h7 : n ≤ 7) (hno : ¬ td_lnk n v1 v2) (K : post 0) : wpY_link post (nI n, yt, yF, yW, yL) v1 v2 :=
  br_c (fun _ => K) (fun h1 => br_c (fun _ => K) (fun h2 => br_c (fun _ => K) (fun h4 => br_c (fun _ => K) (fun h5 => br_c (fun _ => K) (fun h6 => td_lnk_no h7 hno h1 h2 h4 h5 h6)))))
theorem wx_isLink1 {post : Int32 → Prop} {n a b : Nat} (h7 : n ≤ 7) (ha : a < n) (hb : b < n) (hne : a ≠ b) (K : post 1) : wpX_isLink post (nI n, ft, fl, fk, fo, aL, aR, aN, aP, aG, aD, aC, aB, aV, aT) (nI a) (nI b) :=
  br_f (nI_pos (by omega)) (br_f (nI_ge ha (by omega)) (br_f (nI_pos (by omega)) (br_f (nI_ge hb (by omega)) (br_f (by rw [nI_eq (by omega) (by omega)]; exact hne) K))))
theorem wy_link1 {post : Int32 → Prop} {n a b : Nat} (h7 : n ≤ 7) (ha : a < n) (hb : b < n) (hne : a ≠ b) (K : post 1) : wpY_link post (nI n, yt, yF, yW, yL) (nI a) (nI b) :=
  br_f (nI_pos (by omega)) (br_f (nI_ge ha (by omega)) (br_f (nI_pos (by omega)) (br_f (nI_ge hb (by omega)) (br_f (by rw [nI_eq (by omega) (by omega)]; exact hne) K))))

theorem tx_dec_LOK {a b d : Nat} (ha : a < 7) (hb : b < 7) (hd : d ≤ 99) (h : td_LOK aL) : td_LOK (tx_dec aL a b (nI d)) := by
  intro x y hx hy
  rw [tx_dec_at ha hb hx hy, tx_dec_at ha hb hy hx, td_nm_comm y x]
  have := h x y hx hy
  by_cases q : td_nm x y = td_nm a b
  · rw [if_pos q, if_pos q, nI_toInt (by omega)]
    exact ⟨by omega, by omega, rfl⟩
  · rw [if_neg q, if_neg q]; exact this

theorem wx_putLength {post : SX → Prop} {fc : Int32} {a b d : Nat} (ha : a < 7) (hb : b < 7) (hd : d ≤ 99) (K : post (fc, ft, fl, 0, fo, tx_dec aL a b (nI d), aR, aN, aP, aG, aD, aC, aB, aV, aT)) : wpX_putLength post (fc, ft, fl, fk, fo, aL, aR, aN, aP, aG, aD, aC, aB, aV, aT) (nI a) (nI b) (nI d) := by
  unfold wpX_putLength
  dsimp only
  rw [tx_ix, tx_ix, tx_c (by omega), tx_c (by omega), tx_nb (by omega)]
  exact ⟨tx_in (by omega) (by omega), nm_e ⟨tx_in (by omega) (by omega), nm_e K⟩⟩

/-- shift's row, city by city: how many changed, and the lengths -/
def td_sh (aL : Nat → Int32) (a : Nat) (d : Int32) : Nat → Nat × (Nat → Int32)
  | 0 => (0, aL)
  | i + 1 => if i ≠ a ∧ 0 ≤ (td_sh aL a d i).2 (a * 7 + i) + d ∧ (td_sh aL a d i).2 (a * 7 + i) + d ≤ 99 then ((td_sh aL a d i).1 + 1, tx_dec (td_sh aL a d i).2 a i ((td_sh aL a d i).2 (a * 7 + i) + d)) else td_sh aL a d i
theorem td_99 {x : Int32} (h0 : 0 ≤ x) (h9 : x ≤ 99) : ∃ k, k ≤ 99 ∧ x = nI k := nI_of2 (M := 99) (by decide) (Int32.not_lt.mpr h0) h9
theorem td_sh_LOK {a : Nat} {d : Int32} (ha : a < 7) (h : td_LOK aL) : ∀ i, i ≤ 7 → td_LOK (td_sh aL a d i).2 ∧ (td_sh aL a d i).1 ≤ i
  | 0, _ => ⟨h, Nat.le_refl _⟩
  | i + 1, hi => by
    have ih := td_sh_LOK (d := d) ha h i (by omega)
    unfold td_sh
    split
    · rename_i q
      obtain ⟨k, hk, e⟩ := td_99 q.2.1 q.2.2
      rw [e]
      exact ⟨tx_dec_LOK ha (by omega) hk ih.1, by dsimp only; omega⟩
    · exact ⟨ih.1, by omega⟩

theorem wx_shift {post : Int32 → SX → Prop} {n a : Nat} {d : Int32} (h7 : n ≤ 7) (ha : a < n) (hL : td_LOK aL)
    (K : ∀ fk', (fk' ≠ 0 → fk' = fk ∧ (td_sh aL a d n).2 = aL) → post (nI (td_sh aL a d n).1) (nI n, ft, fl, fk', fo, (td_sh aL a d n).2, aR, aN, aP, aG, aD, aC, aB, aV, aT)) : ∃ n31, wX_shift_31 post (nI a) d n31 0 0 (nI n) ft fl fk fo aL aR aN aP aG aD aC aB aV aT := by
  refine pk_loop (σ := Int32) (fun k i s => wX_shift_31 post (nI a) d k (nI (td_sh aL a d i).1) (nI i) (nI n) ft fl s fo ((td_sh aL a d i).2) aR aN aP aG aD aC aB aV aT) (fun i s => s ≠ 0 → s = fk ∧ (td_sh aL a d i).2 = aL) n 0 fk (Nat.zero_le _) (fun _ => ⟨rfl, rfl⟩) ?_ ?_
  · intro k s hI
    exact br_t (nI_le (Nat.le_refl _) (by omega)) (K s hI)
  · intro k i s hi hI ih
    have hcnt := td_sh_LOK (a := a) (d := d) (by omega) hL i (by omega)
    refine br_f (nI_ge hi (by omega)) ?_
    rw [tx_ix, tx_c (by omega)]
    refine ⟨tx_in (by omega) (by omega), nm_e ?_⟩
    have hstay : ¬ (i ≠ a ∧ 0 ≤ (td_sh aL a d i).2 (a * 7 + i) + d ∧ (td_sh aL a d i).2 (a * 7 + i) + d ≤ 99) → ∀ x, x = nI i + 1 → wX_shift_31 post (nI a) d k (nI (td_sh aL a d i).1) x (nI n) ft fl s fo ((td_sh aL a d i).2) aR aN aP aG aD aC aB aV aT := by
      intro q
      have e : td_sh aL a d (i + 1) = td_sh aL a d i := by
        show (if _ then _ else _) = _
        rw [if_neg q]
      have := ih s (by rw [e]; exact hI)
      rw [e] at this
      exact nm_r (nI_1 i) this
    refine pk_eq i a (fun q => hstay (fun r => r.1 q)) (fun q => br_c (fun r => hstay (fun z => absurd r (Int32.not_lt.mpr z.2.1))) (fun r => br_c (fun r2 => hstay (fun z => absurd r2 (Int32.not_lt.mpr z.2.2))) (fun r2 => ?_)))
    have h0 := Int32.not_lt.mp r
    have h9 := Int32.not_lt.mp r2
    have e : td_sh aL a d (i + 1) = ((td_sh aL a d i).1 + 1, tx_dec (td_sh aL a d i).2 a i ((td_sh aL a d i).2 (a * 7 + i) + d)) := by
      show (if _ then _ else _) = _
      rw [if_pos ⟨q, h0, h9⟩]
    have ih' := ih 0 (fun z => absurd rfl z)
    rw [e] at ih'
    obtain ⟨m, hm, em⟩ := td_99 h0 h9
    rw [em] at ih' ⊢
    exact wx_putLength (by omega) (by omega) hm (nm_r (nI_1 _) (nm_r (nI_1 i) ih'))

theorem wy_setLength1 {post : Int32 → SY → Prop} {n a b d : Nat} (h7 : n ≤ 7) (ha : a < n) (hb : b < n) (hne : a ≠ b) (hd : d ≤ 99) (K : post 1 (nI n, yt, tx_dec yF a b (nI d), yW, yL)) : wpY_setLength post (nI n, yt, yF, yW, yL) (nI a) (nI b) (nI d) := by
  unfold wpY_setLength
  dsimp only
  refine wy_link1 h7 ha hb hne (br_f (by decide) (br_f (nI_pos (by omega)) (br_t (nI_le (b := 99) hd (by decide)) ?_)))
  rw [tx_ix, tx_ix, tx_c (by omega), tx_c (by omega)]
  exact ⟨tx_in (by omega) (by omega), nm_e ⟨tx_in (by omega) (by omega), nm_e K⟩⟩
theorem wy_setLength0 {post : Int32 → SY → Prop} {n a b : Nat} {v : Int32} (h7 : n ≤ 7) (ha : a < n) (hb : b < n) (hne : a ≠ b) (hv : ¬ (0 ≤ v ∧ v ≤ 99)) (K : post 0 (nI n, yt, yF, yW, yL)) : wpY_setLength post (nI n, yt, yF, yW, yL) (nI a) (nI b) v := by
  unfold wpY_setLength
  dsimp only
  exact wy_link1 h7 ha hb hne (br_f (by decide) (br_c (fun _ => K) (fun h => br_c (fun h' => absurd ⟨Int32.not_lt.mp h, h'⟩ hv) (fun _ => K))))

theorem wy_shift {post : Int32 → SY → Prop} {n a : Nat} {d : Int32} (h7 : n ≤ 7) (ha : a < n) (hL : td_LOK yF)
    (K : post (nI (td_sh yF a d n).1) (nI n, yt, (td_sh yF a d n).2, yW, yL)) : ∃ n31, wY_shift_31 post (nI a) d n31 0 0 (nI n) yt yF yW yL := by
  refine pk_loop (σ := Unit) (fun k i _ => wY_shift_31 post (nI a) d k (nI (td_sh yF a d i).1) (nI i) (nI n) yt ((td_sh yF a d i).2) yW yL) (fun _ _ => True) n 0 () (Nat.zero_le _) trivial ?_ ?_
  · intro k _ _
    exact br_t (nI_le (Nat.le_refl _) (by omega)) K
  · intro k i _ hi _ ih
    have ih := ih () trivial
    refine br_f (nI_ge hi (by omega)) ?_
    have e0 : ¬ (i ≠ a ∧ 0 ≤ (td_sh yF a d i).2 (a * 7 + i) + d ∧ (td_sh yF a d i).2 (a * 7 + i) + d ≤ 99) → td_sh yF a d (i + 1) = td_sh yF a d i := by
      intro q
      show (if _ then _ else _) = _
      rw [if_neg q]
    rw [tx_ix, tx_c (by omega)]
    refine pk_eq i a (fun q => ?_) (fun q => ⟨tx_in (by omega) (by omega), ?_⟩)
    · rw [e0 (fun r => r.1 q)] at ih
      exact nm_r (nI_1 i) ih
    · by_cases hv : 0 ≤ (td_sh yF a d i).2 (a * 7 + i) + d ∧ (td_sh yF a d i).2 (a * 7 + i) + d ≤ 99
      · have e : td_sh yF a d (i + 1) = ((td_sh yF a d i).1 + 1, tx_dec (td_sh yF a d i).2 a i ((td_sh yF a d i).2 (a * 7 + i) + d)) := by
          show (if _ then _ else _) = _
          rw [if_pos ⟨q, hv⟩]
        rw [e] at ih
        obtain ⟨m, hm, em⟩ := td_99 hv.1 hv.2
        rw [em] at ih ⊢
        exact wy_setLength1 h7 ha hi (fun z => q z.symm) hm (br_f (by decide) (nm_r (nI_1 _) (nm_r (nI_1 i) ih)))
      · rw [e0 (fun r => hv r.2)] at ih
        exact wy_setLength0 h7 ha hi (fun z => q z.symm) hv (br_t rfl (nm_r (nI_1 i) ih))

theorem wx_bestWith0 {post : Int32 → SX → Prop} {n : Nat} {v1 v2 : Int32} (h7 : n ≤ 7) (hno : ¬ td_lnk n v1 v2) (K : post (-1) (nI n, ft, fl, fk, fo, aL, aR, aN, aP, aG, aD, aC, aB, aV, aT)) : wpX_bestWith post (nI n, ft, fl, fk, fo, aL, aR, aN, aP, aG, aD, aC, aB, aV, aT) v1 v2 := by
  unfold wpX_bestWith
  dsimp only
  exact wx_isLink0 h7 hno (br_t rfl K)
theorem wx_bestWith {post : Int32 → SX → Prop} {n a b : Nat} (h3 : 3 ≤ n) (h7 : n ≤ 7) (hL : td_LOK aL) (hR : td_ROK aR) (ha : a < n) (hb : b < n) (hne : a ≠ b)
    (K : ∀ r aN' (s : tx_Sc), td_Min n aL (fun p => td_nm a b ∈ td_T p ∧ td_Cons n aR p) r → post r (nI n, s.1, s.2.1, fk, fo, aL, aR, aN', s.2.2.1, s.2.2.2.1, s.2.2.2.2.1, s.2.2.2.2.2.1, s.2.2.2.2.2.2.1, s.2.2.2.2.2.2.2, aT)) : wpX_bestWith post (nI n, ft, fl, fk, fo, aL, aR, aN, aP, aG, aD, aC, aB, aV, aT) (nI a) (nI b) := by
  unfold wpX_bestWith
  dsimp only
  refine wx_isLink1 h7 ha hb hne (br_f (by decide) ?_)
  rw [tx_ix, tx_c (by omega)]
  refine ⟨tx_in (by omega) (by omega), br_c (fun q => ?_) (fun q => ?_)⟩
  · refine K (-1) aN (ft, fl, aP, aG, aD, aC, aB, aV) (Or.inl ⟨rfl, fun p hP hc => ?_⟩)
    have := hc.2.1 _ hc.1
    rw [tx_rl_nm (by omega) (by omega) hR] at this
    exact this q
  · refine wx_askPlainly hR (fun aN' hA => ?_)
    have hN := tx_agr_ROK hA hR
    refine wx_decide (r := 1) (by omega) (by omega) (by omega) ?_
    refine wx_solveS (aN := tx_dec aN' a b 1) h3 h7 hL (tx_dec_ROK (by omega) (by omega) hN (Or.inr (Or.inl rfl))) (fun r s hM => K r _ s ?_)
    refine td_Min_congr (fun p hP => ?_) hM
    rw [tx_Cons1 h3 h7 hP hN ha hb hne (by rw [hA _ (by omega)]; exact q), tx_agr_Cons h3 h7 hP hA]
theorem wx_bestWithout {post : Int32 → SX → Prop} {n a b : Nat} (h3 : 3 ≤ n) (h7 : n ≤ 7) (hL : td_LOK aL) (hR : td_ROK aR) (ha : a < n) (hb : b < n) (hne : a ≠ b)
    (K : ∀ r aN' (s : tx_Sc), td_Min n aL (fun p => td_nm a b ∉ td_T p ∧ td_Cons n aR p) r → post r (nI n, s.1, s.2.1, fk, fo, aL, aR, aN', s.2.2.1, s.2.2.2.1, s.2.2.2.2.1, s.2.2.2.2.2.1, s.2.2.2.2.2.2.1, s.2.2.2.2.2.2.2, aT)) : wpX_bestWithout post (nI n, ft, fl, fk, fo, aL, aR, aN, aP, aG, aD, aC, aB, aV, aT) (nI a) (nI b) := by
  unfold wpX_bestWithout
  dsimp only
  refine wx_isLink1 h7 ha hb hne (br_f (by decide) ?_)
  rw [tx_ix, tx_c (by omega)]
  refine ⟨tx_in (by omega) (by omega), br_c (fun q => ?_) (fun q => ?_)⟩
  · refine K (-1) aN (ft, fl, aP, aG, aD, aC, aB, aV) (Or.inl ⟨rfl, fun p hP hc => hc.1 ?_⟩)
    have hlt := td_nm_inc hne
    have hbn : (td_nm a b).2 < n := by rcases td_nm_or a b with q | q <;> rw [q] <;> assumption
    refine hc.2.2 _ _ hlt hbn ?_
    have := tx_rl_nm (aN := aR) (a := a) (b := b) (by omega) (by omega) hR
    exact this.trans q
  · refine wx_askPlainly hR (fun aN' hA => ?_)
    have hN := tx_agr_ROK hA hR
    refine wx_decide (r := 2) (by omega) (by omega) (by omega) ?_
    refine wx_solveS (aN := tx_dec aN' a b 2) h3 h7 hL (tx_dec_ROK (by omega) (by omega) hN (Or.inr (Or.inr rfl))) (fun r s hM => K r _ s ?_)
    refine td_Min_congr (fun p hP => ?_) hM
    rw [tx_Cons2 h3 h7 hP hN ha hb hne (by rw [hA _ (by omega)]; exact q), tx_agr_Cons h3 h7 hP hA]
theorem wx_bestWithout0 {post : Int32 → SX → Prop} {n : Nat} {v1 v2 : Int32} (h7 : n ≤ 7) (hno : ¬ td_lnk n v1 v2) (K : post (-1) (nI n, ft, fl, fk, fo, aL, aR, aN, aP, aG, aD, aC, aB, aV, aT)) : wpX_bestWithout post (nI n, ft, fl, fk, fo, aL, aR, aN, aP, aG, aD, aC, aB, aV, aT) v1 v2 := by
  unfold wpX_bestWithout
  dsimp only
  exact wx_isLink0 h7 hno (br_t rfl K)
theorem wy_bestWith0 {post : Int32 → SY → Prop} {n : Nat} {v1 v2 : Int32} (h7 : n ≤ 7) (hno : ¬ td_lnk n v1 v2) (K : post (-1) (nI n, yt, yF, yW, yL)) : wpY_bestWith post (nI n, yt, yF, yW, yL) v1 v2 := by
  unfold wpY_bestWith
  dsimp only
  exact wy_link0 h7 hno (br_t rfl K)
theorem wy_bestWithout0 {post : Int32 → SY → Prop} {n : Nat} {v1 v2 : Int32} (h7 : n ≤ 7) (hno : ¬ td_lnk n v1 v2) (K : post (-1) (nI n, yt, yF, yW, yL)) : wpY_bestWithout post (nI n, yt, yF, yW, yL) v1 v2 := by
  unfold wpY_bestWithout
  dsimp only
  exact wy_link0 h7 hno (br_t rfl K)
theorem wy_bestWith {post : Int32 → SY → Prop} {n a b : Nat} (h3 : 3 ≤ n) (h7 : n ≤ 7) (hF : td_LOK yF) (hW : td_ROK yW) (ha : a < n) (hb : b < n) (hne : a ≠ b)
    (K : ∀ r yL', td_Min n yF (fun p => td_nm a b ∈ td_T p ∧ td_Cons n yW p) r → post r (nI n, nI (td_fac (n - 1)), yF, yW, yL')) : wpY_bestWith post (nI n, nI (td_fac (n - 1)), yF, yW, yL) (nI a) (nI b) := by
  unfold wpY_bestWith
  dsimp only
  refine wy_link1 h7 ha hb hne (br_f (by decide) ?_)
  refine wy_least (w := 1) h3 h7 hF hW ha hb (by omega) (fun r yL' hM => K r yL' (td_Min_congr (fun p hP => ?_) hM))
  unfold ty_C
  constructor
  · intro h
    exact ⟨(h.1.resolve_left (by decide)).mpr rfl, h.2⟩
  · intro h
    exact ⟨Or.inr ⟨fun _ => rfl, fun _ => h.1⟩, h.2⟩
theorem wy_bestWithout {post : Int32 → SY → Prop} {n a b : Nat} (h3 : 3 ≤ n) (h7 : n ≤ 7) (hF : td_LOK yF) (hW : td_ROK yW) (ha : a < n) (hb : b < n) (hne : a ≠ b)
    (K : ∀ r yL', td_Min n yF (fun p => td_nm a b ∉ td_T p ∧ td_Cons n yW p) r → post r (nI n, nI (td_fac (n - 1)), yF, yW, yL')) : wpY_bestWithout post (nI n, nI (td_fac (n - 1)), yF, yW, yL) (nI a) (nI b) := by
  unfold wpY_bestWithout
  dsimp only
  refine wy_link1 h7 ha hb hne (br_f (by decide) ?_)
  refine wy_least (w := 0) h3 h7 hF hW ha hb (by omega) (fun r yL' hM => K r yL' (td_Min_congr (fun p hP => ?_) hM))
  unfold ty_C
  constructor
  · intro h
    exact ⟨fun q => absurd ((h.1.resolve_left (by decide)).mp q) (by decide), h.2⟩
  · intro h
    exact ⟨Or.inr ⟨fun q => absurd q h.1, fun q => absurd q (by decide)⟩, h.2⟩
theorem wy_best {post : Int32 → SY → Prop} {n : Nat} (h3 : 3 ≤ n) (h7 : n ≤ 7) (hF : td_LOK yF) (hW : td_ROK yW)
    (K : ∀ r yL', td_Min n yF (td_Cons n yW) r → post r (nI n, nI (td_fac (n - 1)), yF, yW, yL')) : wpY_best post (nI n, nI (td_fac (n - 1)), yF, yW, yL) := by
  unfold wpY_best
  dsimp only
  refine wy_least (a := 0) (b := 0) (w := 2) h3 h7 hF hW (by omega) (by omega) (by omega) (fun r yL' hM => K r yL' (td_Min_congr (fun p hP => ?_) hM))
  unfold ty_C
  exact ⟨fun h => h.2, fun h => ⟨Or.inl rfl, h⟩⟩
end
end
section
/-! cityAt, neighbours, limit: their loops -/
theorem td_lx_asymm : ∀ (l m : List Nat), td_lx l m → ¬ td_lx m l
  | [], _, h, _ => h
  | _ :: _, [], h, _ => h
  | x :: l, y :: m, h, h' => by
    have h : x < y ∨ (x = y ∧ td_lx l m) := h
    have h' : y < x ∨ (y = x ∧ td_lx m l) := h'
    rcases h with h | h
    · rcases h' with h' | h' <;> omega
    · rcases h' with h' | h'
      · omega
      · exact td_lx_asymm l m h.2 h'.2
/-- two first best tours are one -/
theorem td_first {n : Nat} {C : List Nat → Prop} {p q : List Nat} (h3 : 3 ≤ n) (h7 : n ≤ 7) (hp : td_P n p) (hq : td_P n q) (cp : C p) (cq : C q) (mp : ∀ p', td_P n p' → C p' → ¬ td_lx p' p) (mq : ∀ p', td_P n p' → C p' → ¬ td_lx p' q) : p = q := by
  obtain ⟨t, ht, e⟩ := td_sp_all h3 h7 hp
  obtain ⟨t', ht', e'⟩ := td_sp_all h3 h7 hq
  rcases Nat.lt_trichotomy t t' with h | h | h
  · have := td_sp_lx h3 h7 h ht'
    rw [e, e'] at this
    exact absurd this (mq p hp cp)
  · rw [← e, ← e', h]
  · have := td_sp_lx h3 h7 h ht
    rw [e, e'] at this
    exact absurd this (mp q hq cq)

section
variable {ft fl fk fo : Int32} {aL aR aN aP aG aD aC aB aV aT : Nat → Int32} {yt : Int32} {yF yW yL : Nat → Int32}
theorem ty_cost_eq {n : Nat} {p : List Nat} {c : Int32} (h3 : 3 ≤ n) (h7 : n ≤ 7) (hF : td_LOK yF) (hP : td_P n p) : Int32.ofInt (td_cost yF p) = c ↔ td_cost yF p = c.toInt := by
  have hrg := td_cost_rng h3 h7 hF hP
  have hto : (Int32.ofInt (td_cost yF p)).toInt = td_cost yF p := Int32.toInt_ofInt_of_le (by omega) (by omega)
  constructor
  · intro h
    rw [← h, hto]
  · intro h
    exact Int32.toInt_inj.mp (hto.trans h)

theorem wy_cityAt {post : Int32 → SY → Prop} {n k : Nat} {c : Int32} (h3 : 3 ≤ n) (h7 : n ≤ 7) (hF : td_LOK yF) (hW : td_ROK yW) (hk : k < n) (hex : ∃ p, td_P n p ∧ td_Cons n yW p ∧ td_cost yF p = c.toInt)
    (K : ∀ p yL', td_P n p → (td_Cons n yW p ∧ td_cost yF p = c.toInt) → (∀ p', td_P n p' → (td_Cons n yW p' ∧ td_cost yF p' = c.toInt) → ¬ td_lx p' p) → post (nI ((0 :: p).getD k 0)) (nI n, nI (td_fac (n - 1)), yF, yW, yL')) :
    ∃ n25, wY_cityAt_25 post (nI k) c n25 0 (nI n) (nI (td_fac (n - 1))) yF yW yL := by
  have hf7 := ty_fac (n - 1) (by omega)
  refine pk_loop (σ := Nat → Int32) (fun m t s => wY_cityAt_25 post (nI k) c m (nI t) (nI n) (nI (td_fac (n - 1))) yF yW s) (fun t _ => ∀ t', t' < t → ¬ (td_Cons n yW (td_sp n t') ∧ td_cost yF (td_sp n t') = c.toInt)) (td_fac (n - 1)) 0 yL (Nat.zero_le _) (fun t' ht => absurd ht (Nat.not_lt_zero t')) ?_ ?_
  · intro m s hI
    obtain ⟨p, hP, hc⟩ := hex
    obtain ⟨t, ht, e⟩ := td_sp_all h3 h7 hP
    rw [← e] at hc
    exact absurd hc (hI t ht)
  · intro m t s ht hI ih
    have hP := td_sp_P h3 h7 ht
    refine br_f (nI_ge ht (by omega)) (br_f (nI_ge (b := 720) (by omega) (by decide)) ?_)
    refine wy_spell h3 h7 ht (fun yL' hLk => ?_)
    have hskip : ¬ (td_Cons n yW (td_sp n t) ∧ td_cost yF (td_sp n t) = c.toInt) → ∀ x, x = nI t + 1 → wY_cityAt_25 post (nI k) c m x (nI n) (nI (td_fac (n - 1))) yF yW yL' := by
      intro hc
      refine nm_r (nI_1 t) (ih yL' (fun t' ht' => ?_))
      by_cases q : t' = t
      · rw [q]; exact hc
      · exact hI t' (by omega)
    refine wy_cost h3 h7 hP hLk hF (br_c (fun hc => ?_) (fun hc => hskip (fun h => hc ((ty_cost_eq h3 h7 hF hP).mpr h.2))))
    rw [ty_cost_eq h3 h7 hF hP] at hc
    refine wy_allowed h3 h7 hP hLk hW (fun hn => br_t rfl (hskip (fun h => hn h.1))) (fun hy => br_f (by decide) ⟨tx_in (by omega) (by omega), ?_⟩)
    rw [tx_c (by omega), hLk k hk]
    refine K (td_sp n t) yL' hP ⟨hy, hc⟩ (fun p' hP' hc' hlx => ?_)
    obtain ⟨t', ht', e⟩ := td_sp_all h3 h7 hP'
    rw [← e] at hc' hlx
    rcases Nat.lt_trichotomy t' t with h | h | h
    · exact hI t' h hc'
    · rw [h] at hlx
      exact td_lx_asymm _ _ hlx hlx
    · exact td_lx_asymm _ _ hlx (td_sp_lx h3 h7 h ht')

/-- b is a neighbour of a in some best tour -/
def td_nb (n : Nat) (aL aR : Nat → Int32) (c : Int) (a b : Nat) : Prop := ∃ p, td_P n p ∧ td_Cons n aR p ∧ td_nm a b ∈ td_T p ∧ td_cost aL p = c
theorem td_nb_iff {n a b : Nat} {r : Int32} (h3 : 3 ≤ n) (h7 : n ≤ 7) (hL : td_LOK aL) (hM : td_Min n aL (td_Cons n aR) fo) (h0 : ¬ fo < 0) (hr : td_Min n aL (fun p => td_nm a b ∈ td_T p ∧ td_Cons n aR p) r) : r = fo ↔ td_nb n aL aR fo.toInt a b := by
  obtain ⟨p0, m1, m2, m3, m4⟩ := (td_Min_neg h3 h7 hL hM).2 h0
  constructor
  · intro h
    rw [h] at hr
    obtain ⟨p, a1, a2, a3, a4⟩ := (td_Min_neg h3 h7 hL hr).2 h0
    exact ⟨p, a1, a2.2, a2.1, a3.symm⟩
  · intro ⟨p, a1, a2, a3, a4⟩
    rcases hr with ⟨b1, b2⟩ | ⟨q, b1, b2, b3, b4⟩
    · exact absurd ⟨a3, a2⟩ (b2 p a1)
    · have c1 := b4 p a1 ⟨a3, a2⟩
      have c2 := m4 q b1 b2.2
      exact Int32.toInt_inj.mp (by omega)
theorem td_nb_self {n a : Nat} {c : Int} (h3 : 3 ≤ n) : ¬ td_nb n aL aR c a a := by
  intro ⟨p, a1, a2, a3, a4⟩
  have := td_T_mem h3 a1 a3
  rcases td_nm_or a a with q | q <;> rw [q] at this <;> omega
/-- the set of a's neighbours below i -/
def td_NB (n : Nat) (aL aR : Nat → Int32) (c : Int) (a i : Nat) (s : Int32) : Prop := ∀ j, j < 32 → (bt s j = true ↔ (j < i ∧ td_nb n aL aR c a j))
theorem td_NB_uniq {n a i : Nat} {c : Int} {s s' : Int32} (h : td_NB n aL aR c a i s) (h' : td_NB n aL aR c a i s') : s' = s := by
  refine b_ext (fun j hj => ?_)
  have := (h j hj).trans (h' j hj).symm
  cases q : bt s j <;> cases q' : bt s' j <;> simp [q, q'] at this ⊢
theorem td_or_bit {s : Int32} {b j : Nat} (hb : b < 32) (hj : j < 32) : bt (s ||| ((1 : Int32) <<< (nI b &&& 31))) j = true ↔ (bt s j = true ∨ j = b) := by
  rw [b_or, tx_bit hb hj, Bool.or_eq_true, decide_eq_true_iff]

theorem wx_neighbours {post : Int32 → SX → Prop} {n a : Nat} (h3 : 3 ≤ n) (h7 : n ≤ 7) (hL : td_LOK aL) (hR : td_ROK aR) (ha : a < n) (hM : td_Min n aL (td_Cons n aR) fo) (h0 : ¬ fo < 0)
    (K : ∀ s aN' (z : tx_Sc), td_NB n aL aR fo.toInt a n s → post s (nI n, z.1, z.2.1, fk, fo, aL, aR, aN', z.2.2.1, z.2.2.2.1, z.2.2.2.2.1, z.2.2.2.2.2.1, z.2.2.2.2.2.2.1, z.2.2.2.2.2.2.2, aT)) : ∃ n29, wX_neighbours_29 post (nI a) n29 0 0 (nI n) ft fl fk fo aL aR aN aP aG aD aC aB aV aT := by
  refine pk_loop (σ := Int32 × (Nat → Int32) × tx_Sc) (fun k i s => wX_neighbours_29 post (nI a) k s.1 (nI i) (nI n) s.2.2.1 s.2.2.2.1 fk fo aL aR s.2.1 s.2.2.2.2.1 s.2.2.2.2.2.1 s.2.2.2.2.2.2.1 s.2.2.2.2.2.2.2.1 s.2.2.2.2.2.2.2.2.1 s.2.2.2.2.2.2.2.2.2 aT) (fun i s => td_NB n aL aR fo.toInt a i s.1) n 0 (0, aN, (ft, fl, aP, aG, aD, aC, aB, aV)) (Nat.zero_le _) ?_ ?_ ?_
  · intro j hj
    show bt 0 j = true ↔ _
    rw [b_0]
    exact ⟨fun h => absurd h (by decide), fun h => absurd h.1 (Nat.not_lt_zero j)⟩
  · intro k s hI
    exact br_t (nI_le (Nat.le_refl _) (by omega)) (K s.1 s.2.1 s.2.2 hI)
  · intro k b s hb hI ih
    refine br_f (nI_ge hb (by omega)) ?_
    have hyes : td_nb n aL aR fo.toInt a b → td_NB n aL aR fo.toInt a (b + 1) (s.1 ||| ((1 : Int32) <<< (nI b &&& 31))) := by
      intro hh j hj
      rw [td_or_bit (by omega) hj, hI j hj]
      constructor
      · intro h
        rcases h with h | h
        · exact ⟨by omega, h.2⟩
        · rw [h]; exact ⟨by omega, hh⟩
      · intro h
        by_cases q : j = b
        · exact Or.inr q
        · exact Or.inl ⟨by omega, h.2⟩
    have hnot : ¬ td_nb n aL aR fo.toInt a b → td_NB n aL aR fo.toInt a (b + 1) s.1 := by
      intro hh j hj
      rw [hI j hj]
      constructor
      · intro h
        exact ⟨by omega, h.2⟩
      · intro h
        refine ⟨?_, h.2⟩
        by_cases q : j = b
        · rw [q] at h; exact absurd h.2 hh
        · omega
    by_cases q : a = b
    · refine wx_bestWith0 h7 ?_ (br_f (fun h => h0 (by rw [← h]; decide)) (nm_r (nI_1 b) (ih (s.1, s.2.1, s.2.2) (hnot ?_))))
      · intro ⟨a', b', a1, a2, a3, a4, a5⟩
        rw [nI_eq (by omega) (by omega)] at a4 a5
        omega
      · rw [← q]; exact td_nb_self h3
    · refine wx_bestWith h3 h7 hL hR ha hb q (fun r aN' z hr => ?_)
      have hiff := td_nb_iff h3 h7 hL hM h0 hr
      exact br_c (fun h => nm_e (nm_r (nI_1 b) (ih (_, aN', z) (hyes (hiff.mp h))))) (fun h => nm_r (nI_1 b) (ih (_, aN', z) (hnot (fun hh => h (hiff.mpr hh)))))

def ty_NB (n : Nat) (yF yW : Nat → Int32) (c : Int) (a t i : Nat) (s : Int32) : Prop := ∀ j, j < 32 → (bt s j = true ↔ ((j < n ∧ ∃ t', t' < t ∧ td_Cons n yW (td_sp n t') ∧ td_nm a j ∈ td_T (td_sp n t') ∧ td_cost yF (td_sp n t') = c) ∨ (j < i ∧ td_nm a j ∈ td_T (td_sp n t))))
theorem wy_neighbours {post : Int32 → SY → Prop} {n a : Nat} {c : Int32} (h3 : 3 ≤ n) (h7 : n ≤ 7) (hF : td_LOK yF) (hW : td_ROK yW) (ha : a < n)
    (K : ∀ s yL', td_NB n yF yW c.toInt a n s → post s (nI n, nI (td_fac (n - 1)), yF, yW, yL')) : ∃ n28, wY_neighbours_28 post (nI a) c n28 0 0 (nI n) (nI (td_fac (n - 1))) yF yW yL := by
  have hf7 := ty_fac (n - 1) (by omega)
  refine pk_loop (σ := Int32 × (Nat → Int32)) (fun m t s => wY_neighbours_28 post (nI a) c m s.1 (nI t) (nI n) (nI (td_fac (n - 1))) yF yW s.2) (fun t s => ty_NB n yF yW c.toInt a t 0 s.1) (td_fac (n - 1)) 0 (0, yL) (Nat.zero_le _) ?_ ?_ ?_
  · intro j hj
    show bt 0 j = true ↔ _
    rw [b_0]
    refine ⟨fun h => absurd h (by decide), fun h => ?_⟩
    rcases h with ⟨_, t', h, _⟩ | ⟨h, _⟩
    · exact absurd h (Nat.not_lt_zero t')
    · exact absurd h (Nat.not_lt_zero j)
  · intro m s hI
    refine br_t (nI_le (Nat.le_refl _) (by omega)) (K s.1 s.2 (fun j hj => ?_))
    rw [hI j hj]
    constructor
    · intro h
      rcases h with ⟨h1, t', h2, h4, h5, h6⟩ | ⟨h, _⟩
      · exact ⟨h1, td_sp n t', td_sp_P h3 h7 h2, h4, h5, h6⟩
      · exact absurd h (Nat.not_lt_zero j)
    · intro ⟨h1, p, hP, h4, h5, h6⟩
      obtain ⟨t', ht', e⟩ := td_sp_all h3 h7 hP
      rw [← e] at h4 h5 h6
      exact Or.inl ⟨h1, t', ht', h4, h5, h6⟩
  · intro m t s ht hI ih
    have hP := td_sp_P h3 h7 ht
    refine br_f (nI_ge ht (by omega)) (br_f (nI_ge (b := 720) (by omega) (by decide)) ?_)
    refine wy_spell h3 h7 ht (fun yL' hLk => ?_)
    have hskip : ¬ (td_Cons n yW (td_sp n t) ∧ td_cost yF (td_sp n t) = c.toInt) → ∀ x, x = nI t + 1 → wY_neighbours_28 post (nI a) c m s.1 x (nI n) (nI (td_fac (n - 1))) yF yW yL' := by
      intro hc
      refine nm_r (nI_1 t) (ih (s.1, yL') (fun j hj => ?_))
      show bt s.1 j = true ↔ _
      rw [hI j hj]
      constructor
      · intro h
        rcases h with ⟨h1, t', h2, h4⟩ | ⟨h, _⟩
        · exact Or.inl ⟨h1, t', by omega, h4⟩
        · exact absurd h (Nat.not_lt_zero j)
      · intro h
        rcases h with ⟨h1, t', h2, h4, h5, h6⟩ | ⟨h, _⟩
        · refine Or.inl ⟨h1, t', ?_, h4, h5, h6⟩
          by_cases q : t' = t
          · rw [q] at h4 h6; exact absurd ⟨h4, h6⟩ hc
          · omega
        · exact absurd h (Nat.not_lt_zero j)
    refine wy_cost h3 h7 hP hLk hF (br_c (fun hc => ?_) (fun hc => hskip (fun h => hc ((ty_cost_eq h3 h7 hF hP).mpr h.2))))
    rw [ty_cost_eq h3 h7 hF hP] at hc
    refine wy_allowed h3 h7 hP hLk hW (fun hn => br_t rfl (hskip (fun h => hn h.1))) (fun hy => br_f (by decide) ?_)
    refine pk_loop (σ := Int32) (fun m' b z => wY_neighbours_69 post (wY_neighbours_28 post (nI a) c m) (nI a) c (nI t) (nI n) (nI (td_fac (n - 1))) yF yW yL' m' z (nI b)) (fun b z => ty_NB n yF yW c.toInt a t b z) n 0 s.1 (Nat.zero_le _) hI ?_ ?_
    · intro m' z hz
      refine br_t (nI_le (Nat.le_refl _) (by omega)) (nm_r (nI_1 t) (ih (z, yL') (fun j hj => ?_)))
      show bt z j = true ↔ _
      rw [hz j hj]
      constructor
      · intro h
        rcases h with ⟨h1, t', h2, h4⟩ | ⟨h, h'⟩
        · exact Or.inl ⟨h1, t', by omega, h4⟩
        · exact Or.inl ⟨h, t, by omega, hy, h', hc⟩
      · intro h
        rcases h with ⟨h1, t', h2, h4, h5, h6⟩ | ⟨h, _⟩
        · by_cases q : t' = t
          · rw [q] at h5; exact Or.inr ⟨h1, h5⟩
          · exact Or.inl ⟨h1, t', by omega, h4, h5, h6⟩
        · exact absurd h (Nat.not_lt_zero j)
    · intro m' b z hb hz ih'
      refine br_f (nI_ge hb (by omega)) (wy_has h3 h7 hP hLk ha hb ?_)
      by_cases q : td_nm a b ∈ td_T (td_sp n t)
      · rw [if_pos q]
        refine br_f (by decide) (nm_e (nm_r (nI_1 b) (ih' _ (fun j hj => ?_))))
        rw [td_or_bit (by omega) hj, hz j hj]
        constructor
        · intro h
          rcases h with (h | h) | h
          · exact Or.inl h
          · exact Or.inr ⟨by omega, h.2⟩
          · rw [h]; exact Or.inr ⟨by omega, q⟩
        · intro h
          rcases h with h | h
          · exact Or.inl (Or.inl h)
          · by_cases r : j = b
            · exact Or.inr r
            · exact Or.inl (Or.inr ⟨by omega, h.2⟩)
      · rw [if_neg q]
        refine br_t rfl (nm_r (nI_1 b) (ih' _ (fun j hj => ?_)))
        rw [hz j hj]
        constructor
        · intro h
          rcases h with h | h
          · exact Or.inl h
          · exact Or.inr ⟨by omega, h.2⟩
        · intro h
          rcases h with h | h
          · exact Or.inl h
          · refine Or.inr ⟨?_, h.2⟩
            by_cases r : j = b
            · rw [r] at h; exact absurd h.2 q
            · omega

/-- the reference's limit: d falls from 99 -/
theorem wy_limit {post : Int32 → SY → Prop} {fn : Int32} {a b : Nat} {r1 r2 v : Int32} {R Q : Int} (ha : a < 7) (hb : b < 7) (hR : (r1 - yF (a * 7 + b)).toInt = R) (hQ : r2.toInt = Q) (h0 : 0 ≤ Q) (hQ9 : Q ≤ 1000) (hR1 : -1000 ≤ R) (hR9 : R ≤ 1000)
    (K : post v (fn, yt, yF, yW, yL)) : ∀ d : Nat, d ≤ 99 → ((R ≤ Q ∧ v.toInt = Q - R ∧ Q - R ≤ d) ∨ (Q < R ∧ v = -1)) → wY_limit_25 post (nI a) (nI b) r1 r2 fn yt yF yW yL (d + 2) (nI d)
  | d, hd, hv => by
    refine br_f (nI_pos (by omega)) ?_
    rw [tx_ix, tx_c (by omega)]
    have hx : (r1 - yF (a * 7 + b) + nI d).toInt = R + d := by
      have e : r1 - yF (a * 7 + b) + nI d = Int32.ofInt (R + d) := by rw [Int32.ofInt_add, ← hR, Int32.ofInt_toInt, tx_oi (by omega)]
      rw [e, Int32.toInt_ofInt_of_le (by omega) (by omega)]
    refine ⟨tx_in (by omega) (by omega), nm_e (br_f (by rw [Int32.lt_iff_toInt_lt, hQ, Int32.toInt_zero]; omega) (br_c (fun hlt => ?_) (fun hlt => ?_)))⟩
    · rw [Int32.lt_iff_toInt_lt, hQ, hx] at hlt
      match d, hd, hv, hlt with
      | 0, _, hv, hlt =>
        refine nm_r (e' := -1) (by decide) ?_
        have hv' : v = -1 := by
          rcases hv with h | h
          · omega
          · exact h.2
        rw [hv'] at K
        exact br_t (by decide) K
      | d + 1, hd, hv, hlt =>
        refine nm_r (pk_m1 d) (wy_limit ha hb hR hQ h0 hQ9 hR1 hR9 K d (by omega) ?_)
        rcases hv with h | h
        · exact Or.inl ⟨h.1, h.2.1, by omega⟩
        · exact Or.inr h
    · rw [Int32.lt_iff_toInt_lt, hQ, hx] at hlt
      have hv' : v = nI d := by
        rcases hv with h | h
        · refine Int32.toInt_inj.mp ?_
          rw [h.2.1, nI_toInt (by omega)]
          omega
        · omega
      rw [hv'] at K
      exact K
end
end
section
/-! what is owed -/
/-- the relation: the same cities, lengths and rules; what the desk keeps of its last tour is right, if it is said to be known -/
def i_Rel (k : Nat) (u : SX) (v : SY) : Prop := match u, v with
  | (fc, ft, fl, fk, fo, aL, aR, aN, aP, aG, aD, aC, aB, aV, aT), (yn, yt, yF, yW, yL) => ∃ n, 3 ≤ n ∧ n ≤ 7 ∧ fc = nI n ∧ yn = nI n ∧ yt = nI (td_fac (n - 1)) ∧ yF = aL ∧ yW = aR ∧ td_LOK aL ∧ td_ROK aR ∧ (fk ≠ 0 → td_Info n aL aR fo aT)
theorem i_up {k : Nat} {u : SX} {v : SY} (h : i_Rel k u v) : i_Rel (k + 4) u v := h
theorem td_in {k n : Nat} {ft fl fk fo : Int32} {aL aR aN aP aG aD aC aB aV aT yL : Nat → Int32} (h3 : 3 ≤ n) (h7 : n ≤ 7) (hL : td_LOK aL) (hR : td_ROK aR) (hI : fk ≠ 0 → td_Info n aL aR fo aT) : i_Rel k (nI n, ft, fl, fk, fo, aL, aR, aN, aP, aG, aD, aC, aB, aV, aT) (nI n, nI (td_fac (n - 1)), aL, aR, yL) :=
  ⟨n, h3, h7, rfl, rfl, rfl, rfl, rfl, hL, hR, hI⟩
theorem td_el {k : Nat} {u : SX} {v : SY} {P : SX → SY → Prop} (I : i_Rel k u v) (h : ∀ (n : Nat) (ft fl fk fo : Int32) (aL aR aN aP aG aD aC aB aV aT yL : Nat → Int32), 3 ≤ n → n ≤ 7 → td_LOK aL → td_ROK aR → (fk ≠ 0 → td_Info n aL aR fo aT) → P (nI n, ft, fl, fk, fo, aL, aR, aN, aP, aG, aD, aC, aB, aV, aT) (nI n, nI (td_fac (n - 1)), aL, aR, yL)) : P u v := by
  obtain ⟨fc, ft, fl, fk, fo, aL, aR, aN, aP, aG, aD, aC, aB, aV, aT⟩ := u
  obtain ⟨yn, yt, yF, yW, yL⟩ := v
  obtain ⟨n, h3, h7, e1, e2, e3, e4, e5, hL, hR, hI⟩ := I
  subst e1 e2 e3 e4 e5
  exact h n ft fl fk fo _ _ aN aP aG aD aC aB aV aT yL h3 h7 hL hR hI

theorem td_clx (x : Int32) : ∃ d, d ≤ 99 ∧ ∀ (A : Int32 → Prop), A (nI d) → ((0 ≤ x → ((x ≤ 99 → A x) ∧ (¬ x ≤ 99 → A 99))) ∧ (¬ 0 ≤ x → A 0)) := by
  by_cases h : 0 ≤ x
  · by_cases h9 : x ≤ 99
    · obtain ⟨d, hd, e⟩ := td_99 h h9
      exact ⟨d, hd, fun A hA => br_t h (br_t h9 (by rw [e]; exact hA))⟩
    · exact ⟨99, by omega, fun A hA => br_t h (br_f h9 hA)⟩
  · exact ⟨0, by omega, fun A hA => br_f h hA⟩
theorem td_cln (x : Int32) : ∃ n, 3 ≤ n ∧ n ≤ 7 ∧ ∀ (A : Int32 → Prop), A (nI n) → ((3 ≤ x → ((x ≤ 7 → A x) ∧ (¬ x ≤ 7 → A 7))) ∧ (¬ 3 ≤ x → A 3)) := by
  by_cases h : 3 ≤ x
  · by_cases h9 : x ≤ 7
    · obtain ⟨d, hd, e⟩ := nI_of2 (x := x) (M := 7) (n := 7) (by decide) (by
        rw [Int32.lt_iff_toInt_lt, Int32.toInt_zero]
        rw [Int32.le_iff_toInt_le] at h
        have : (3 : Int32).toInt = 3 := by decide
        omega) h9
      refine ⟨d, ?_, hd, fun A hA => br_t h (br_t h9 (by rw [e]; exact hA))⟩
      rw [e, show (3 : Int32) = nI 3 from rfl, nI_leI (by omega) (by omega)] at h
      exact h
    · exact ⟨7, by omega, by omega, fun A hA => br_t h (br_f h9 hA)⟩
  · exact ⟨3, by omega, by omega, fun A hA => br_f h hA⟩
def td_all (d : Nat) (i : Nat) : Nat → Int32 := fun k => if k < i then nI d else 0
theorem td_all_0 (d : Nat) : td_all d 0 = fun _ => 0 := by
  funext k
  exact if_neg (Nat.not_lt_zero k)
theorem td_all_s (d i : Nat) : upd (td_all d i) i (nI d) = td_all d (i + 1) := by
  funext k
  unfold td_all
  by_cases q : k = i
  · rw [q, pk_us, if_pos (by omega)]
  · rw [pk_un q]
    have : k < i ↔ k < i + 1 := by omega
    simp only [this]
theorem td_all_LOK {d : Nat} (hd : d ≤ 99) : td_LOK (td_all d 49) := by
  intro a b ha hb
  unfold td_all
  rw [if_pos (by omega), if_pos (by omega), nI_toInt (by omega)]
  exact ⟨by omega, by omega, rfl⟩

theorem wx_i133 {post : SX → Prop} {n d : Nat} {ft fl fk fo : Int32} {aR aN aP aG aD aC aB aV aT : Nat → Int32} (hd : d ≤ 99) (K : post (nI n, ft, fl, fk, fo, td_all d 49, aR, aN, aP, aG, aD, aC, aB, aV, aT)) : ∃ n133, wX_init_133 post (nI d) (nI n) ft fl fk fo n133 0 (fun _ => 0) aR aN aP aG aD aC aB aV aT := by
  rw [← td_all_0 d]
  refine pk_loop (σ := Unit) (fun k i _ => wX_init_133 post (nI d) (nI n) ft fl fk fo k (nI i) (td_all d i) aR aN aP aG aD aC aB aV aT) (fun _ _ => True) 49 0 () (Nat.zero_le _) trivial ?_ ?_
  · intro k _ _
    exact br_t (by decide) K
  · intro k i _ hi _ ih
    refine br_f (nI_ge (b := 49) hi (by decide)) ⟨tx_in hi (by omega), nm_r (e' := td_all d (i + 1)) ?_ (nm_r (nI_1 i) (ih () trivial))⟩
    rw [tx_c (by omega), tx_nb (by omega), td_all_s]
theorem wy_i77 {post : SY → Prop} {n d : Nat} {yt : Int32} {yW yL : Nat → Int32} (h3 : 3 ≤ n) (h7 : n ≤ 7) (hd : d ≤ 99) (K : post (nI n, nI (td_fac (n - 1)), td_all d 49, yW, yL)) : ∃ n77, wY_init_77 post (nI d) (nI n) yt n77 0 (fun _ => 0) yW yL := by
  rw [← td_all_0 d]
  refine pk_loop (σ := Unit) (fun k i _ => wY_init_77 post (nI d) (nI n) yt k (nI i) (td_all d i) yW yL) (fun _ _ => True) 49 0 () (Nat.zero_le _) trivial ?_ ?_
  · intro k _ _
    refine br_t (by decide) ?_
    refine pk_loop (σ := Unit) (fun k i _ => wY_init_106 post (nI n) (td_all d 49) yW yL k (nI i) (nI (td_fac (i - 1)))) (fun i _ => 2 ≤ i) n 2 () (by omega) (by omega) ?_ ?_
    · intro k _ _
      exact br_t (nI_le (Nat.le_refl _) (by omega)) K
    · intro k i _ hi h2 ih
      refine br_f (nI_ge hi (by omega)) (nm_r (e' := nI (td_fac i)) ?_ (nm_r (nI_1 i) (ih () (by omega))))
      rw [pk_mul]
      obtain ⟨m, rfl⟩ : ∃ m, i = m + 1 := ⟨i - 1, by omega⟩
      show nI (td_fac m * (m + 1)) = nI ((m + 1) * td_fac m)
      rw [Nat.mul_comm]
  · intro k i _ hi _ ih
    refine br_f (nI_ge (b := 49) hi (by decide)) ⟨tx_in hi (by omega), nm_r (e' := td_all d (i + 1)) ?_ (nm_r (nI_1 i) (ih () trivial))⟩
    rw [tx_c (by omega), td_all_s]

theorem i_vc0 (k0 : Int32) (k1 : Int32) : wpX_init (fun u => wpY_init (fun v => i_Rel 2 u v) k0 k1) k0 k1 := by
  obtain ⟨n, h3, h7, hn⟩ := td_cln k0
  obtain ⟨d, hd, hx⟩ := td_clx k1
  refine hn (fun z => wX_init_106 (fun u => wpY_init (fun v => i_Rel 2 u v) k0 k1) k1 z 0 0 0 0 0 (fun _ => 0) (fun _ => 0) (fun _ => 0) (fun _ => 0) (fun _ => 0) (fun _ => 0) (fun _ => 0) (fun _ => 0) (fun _ => 0) (fun _ => 0)) ?_
  refine hx (fun x => ∃ n133, wX_init_133 (fun u => wpY_init (fun v => i_Rel 2 u v) k0 k1) x (nI n) 0 0 0 0 n133 0 (fun _ => 0) (fun _ => 0) (fun _ => 0) (fun _ => 0) (fun _ => 0) (fun _ => 0) (fun _ => 0) (fun _ => 0) (fun _ => 0) (fun _ => 0)) ?_
  refine wx_i133 hd ?_
  refine hn (fun z => wY_init_50 (fun v => i_Rel 2 (nI n, 0, 0, 0, 0, td_all d 49, (fun _ => 0), (fun _ => 0), (fun _ => 0), (fun _ => 0), (fun _ => 0), (fun _ => 0), (fun _ => 0), (fun _ => 0), (fun _ => 0)) v) k1 z 0 0 (fun _ => 0) (fun _ => 0) (fun _ => 0)) ?_
  refine hx (fun x => ∃ n77, wY_init_77 (fun v => i_Rel 2 (nI n, 0, 0, 0, 0, td_all d 49, (fun _ => 0), (fun _ => 0), (fun _ => 0), (fun _ => 0), (fun _ => 0), (fun _ => 0), (fun _ => 0), (fun _ => 0), (fun _ => 0)) v) x (nI n) 0 n77 0 (fun _ => 0) (fun _ => 0) (fun _ => 0)) ?_
  exact wy_i77 h3 h7 hd (td_in h3 h7 (td_all_LOK hd) (fun a b _ _ => ⟨Or.inl rfl, rfl⟩) (fun h => absurd rfl h))

theorem i_vc_setLength {k : Nat} {u : SX} {v : SY} (I : i_Rel k u v) (hk : k + 4 ≤ 2050) (v1 : Int32) (v2 : Int32) (v3 : Int32) : wpX_setLength (fun r u' => wpY_setLength (fun r' v' => r' = r ∧ i_Rel (k + 4) u' v') v v1 v2 v3) u v1 v2 v3 := by
  refine td_el (P := fun u v => wpX_setLength (fun r u' => wpY_setLength (fun r' v' => r' = r ∧ i_Rel (k + 4) u' v') v v1 v2 v3) u v1 v2 v3) I ?_
  intro n ft fl fk fo aL aR aN aP aG aD aC aB aV aT yL h3 h7 hL hR hI
  have hsame := td_in (k := k + 4) (ft := ft) (fl := fl) (aN := aN) (aP := aP) (aG := aG) (aD := aD) (aC := aC) (aB := aB) (aV := aV) (yL := yL) h3 h7 hL hR hI
  unfold wpX_setLength
  dsimp only
  by_cases hl : td_lnk n v1 v2
  · obtain ⟨a, b, ha, hb, hne, rfl, rfl⟩ := hl
    refine wx_isLink1 h7 ha hb hne (br_f (by decide) ?_)
    by_cases hv : 0 ≤ v3 ∧ v3 ≤ 99
    · obtain ⟨d, hd, rfl⟩ := td_99 hv.1 hv.2
      exact br_f (Int32.not_lt.mpr hv.1) (br_t hv.2 (wx_putLength (by omega) (by omega) hd (wy_setLength1 h7 ha hb hne hd ⟨rfl, td_in h3 h7 (tx_dec_LOK (by omega) (by omega) hd hL) hR (fun h => absurd rfl h)⟩)))
    · have hY := wy_setLength0 (post := fun r' v' => r' = 0 ∧ i_Rel (k + 4) (nI n, ft, fl, fk, fo, aL, aR, aN, aP, aG, aD, aC, aB, aV, aT) v') (yt := nI (td_fac (n - 1))) (yF := aL) (yW := aR) (yL := yL) h7 ha hb hne hv ⟨rfl, hsame⟩
      exact br_c (fun _ => hY) (fun h => br_c (fun h' => absurd ⟨Int32.not_lt.mp h, h'⟩ hv) (fun _ => hY))
  · refine wx_isLink0 h7 hl (br_t rfl ?_)
    unfold wpY_setLength
    exact wy_link0 h7 hl (br_t rfl ⟨rfl, hsame⟩)

theorem i_vc_setRule {k : Nat} {u : SX} {v : SY} (I : i_Rel k u v) (hk : k + 4 ≤ 2050) (v1 : Int32) (v2 : Int32) (v3 : Int32) : wpX_setRule (fun r u' => wpY_setRule (fun r' v' => r' = r ∧ i_Rel (k + 4) u' v') v v1 v2 v3) u v1 v2 v3 := by
  refine td_el (P := fun u v => wpX_setRule (fun r u' => wpY_setRule (fun r' v' => r' = r ∧ i_Rel (k + 4) u' v') v v1 v2 v3) u v1 v2 v3) I ?_
  intro n ft fl fk fo aL aR aN aP aG aD aC aB aV aT yL h3 h7 hL hR hI
  have hsame := td_in (k := k + 4) (ft := ft) (fl := fl) (aN := aN) (aP := aP) (aG := aG) (aD := aD) (aC := aC) (aB := aB) (aV := aV) (yL := yL) h3 h7 hL hR hI
  unfold wpX_setRule
  dsimp only
  by_cases hl : td_lnk n v1 v2
  · obtain ⟨a, b, ha, hb, hne, rfl, rfl⟩ := hl
    have e1 := tx_c (k := a * 7 + b) (by omega)
    have e2 := tx_c (k := b * 7 + a) (by omega)
    refine wx_isLink1 h7 ha hb hne (br_f (by decide) (br_c (fun q => ?_) (fun q => br_c (fun q2 => ?_) (fun q2 => ?_))))
    · unfold wpY_setRule
      exact wy_link1 h7 ha hb hne (br_f (by decide) (br_t q ⟨rfl, hsame⟩))
    · obtain ⟨d, hd, rfl⟩ := nI_of2 (M := 2) (n := 2) (by decide) q q2
      rw [tx_ix, tx_ix, e1, e2, tx_nb (by omega)]
      refine ⟨tx_in (by omega) (by omega), nm_e ⟨tx_in (by omega) (by omega), nm_e ?_⟩⟩
      unfold wpY_setRule
      refine wy_link1 h7 ha hb hne (br_f (by decide) (br_f q (br_t q2 ?_)))
      rw [tx_ix, tx_ix, e1, e2]
      refine ⟨tx_in (by omega) (by omega), nm_e ⟨tx_in (by omega) (by omega), nm_e ⟨rfl, td_in (aR := tx_dec aR a b (nI d)) h3 h7 hL (tx_dec_ROK (by omega) (by omega) hR ?_) (fun h => absurd rfl h)⟩⟩⟩
      have : d = 0 ∨ d = 1 ∨ d = 2 := by omega
      rcases this with r | r | r <;> rw [r]
      · exact Or.inl rfl
      · exact Or.inr (Or.inl rfl)
      · exact Or.inr (Or.inr rfl)
    · unfold wpY_setRule
      exact wy_link1 h7 ha hb hne (br_f (by decide) (br_f q (br_f q2 ⟨rfl, hsame⟩)))
  · refine wx_isLink0 h7 hl (br_t rfl ?_)
    unfold wpY_setRule
    exact wy_link0 h7 hl (br_t rfl ⟨rfl, hsame⟩)

theorem i_vc_shift {k : Nat} {u : SX} {v : SY} (I : i_Rel k u v) (hk : k + 4 ≤ 2050) (v1 : Int32) (v2 : Int32) : wpX_shift (fun r u' => wpY_shift (fun r' v' => r' = r ∧ i_Rel (k + 4) u' v') v v1 v2) u v1 v2 := by
  refine td_el (P := fun u v => wpX_shift (fun r u' => wpY_shift (fun r' v' => r' = r ∧ i_Rel (k + 4) u' v') v v1 v2) u v1 v2) I ?_
  intro n ft fl fk fo aL aR aN aP aG aD aC aB aV aT yL h3 h7 hL hR hI
  have hsame := td_in (k := k + 4) (ft := ft) (fl := fl) (aN := aN) (aP := aP) (aG := aG) (aD := aD) (aC := aC) (aB := aB) (aV := aV) (yL := yL) h3 h7 hL hR hI
  refine br_c (fun q1 => br_t q1 ⟨rfl, hsame⟩) (fun q1 => br_c (fun q2 => br_f q1 (br_t q2 ⟨rfl, hsame⟩)) (fun q2 => br_c (fun q4 => br_f q1 (br_f q2 (br_t q4 ⟨rfl, hsame⟩))) (fun q4 => br_c (fun q5 => ?_) (fun q5 => br_f q1 (br_f q2 (br_f q4 (br_f q5 ⟨rfl, hsame⟩)))))))
  obtain ⟨a, ha, e, _⟩ := pk_mu q1 q2 (by omega)
  subst e
  refine wx_shift h7 ha hL (fun fk' hfk => br_f q1 (br_f q2 (br_f q4 (br_t q5 (wy_shift h7 ha hL ⟨rfl, td_in h3 h7 (td_sh_LOK (by omega) hL n h7).1 hR (fun h => ?_)⟩)))))
  have := hfk h
  rw [this.2]
  exact hI (by rw [← this.1]; exact h)

theorem i_vc_length {k : Nat} {u : SX} {v : SY} (I : i_Rel k u v) (hk : k + 4 ≤ 2050) (v1 : Int32) (v2 : Int32) : wpX_length (fun r => wpY_length (fun r' => r' = r ∧ i_Rel (k + 4) u v) v v1 v2) u v1 v2 := by
  refine td_el (P := fun u v => wpX_length (fun r => wpY_length (fun r' => r' = r ∧ i_Rel (k + 4) u v) v v1 v2) u v1 v2) I ?_
  intro n ft fl fk fo aL aR aN aP aG aD aC aB aV aT yL h3 h7 hL hR hI
  have hsame := td_in (k := k + 4) (ft := ft) (fl := fl) (aN := aN) (aP := aP) (aG := aG) (aD := aD) (aC := aC) (aB := aB) (aV := aV) (yL := yL) h3 h7 hL hR hI
  unfold wpX_length wpY_length
  dsimp only
  by_cases hl : td_lnk n v1 v2
  · obtain ⟨a, b, ha, hb, hne, rfl, rfl⟩ := hl
    rw [tx_ix, tx_c (by omega)]
    have hin : vp_in (nI (a * 7 + b)) 49 := tx_in (by omega) (by omega)
    exact wx_isLink1 h7 ha hb hne (br_f (by decide) ⟨hin, wy_link1 h7 ha hb hne (br_f (by decide) ⟨hin, rfl, hsame⟩)⟩)
  · exact wx_isLink0 h7 hl (br_t rfl (wy_link0 h7 hl (br_t rfl ⟨rfl, hsame⟩)))

theorem i_vc_rule {k : Nat} {u : SX} {v : SY} (I : i_Rel k u v) (hk : k + 4 ≤ 2050) (v1 : Int32) (v2 : Int32) : wpX_rule (fun r => wpY_rule (fun r' => r' = r ∧ i_Rel (k + 4) u v) v v1 v2) u v1 v2 := by
  refine td_el (P := fun u v => wpX_rule (fun r => wpY_rule (fun r' => r' = r ∧ i_Rel (k + 4) u v) v v1 v2) u v1 v2) I ?_
  intro n ft fl fk fo aL aR aN aP aG aD aC aB aV aT yL h3 h7 hL hR hI
  have hsame := td_in (k := k + 4) (ft := ft) (fl := fl) (aN := aN) (aP := aP) (aG := aG) (aD := aD) (aC := aC) (aB := aB) (aV := aV) (yL := yL) h3 h7 hL hR hI
  unfold wpX_rule wpY_rule
  dsimp only
  by_cases hl : td_lnk n v1 v2
  · obtain ⟨a, b, ha, hb, hne, rfl, rfl⟩ := hl
    rw [tx_ix, tx_c (by omega)]
    have hin : vp_in (nI (a * 7 + b)) 49 := tx_in (by omega) (by omega)
    exact wx_isLink1 h7 ha hb hne (br_f (by decide) ⟨hin, wy_link1 h7 ha hb hne (br_f (by decide) ⟨hin, rfl, hsame⟩)⟩)
  · exact wx_isLink0 h7 hl (br_t rfl (wy_link0 h7 hl (br_t rfl ⟨rfl, hsame⟩)))

theorem i_vc_best {k : Nat} {u : SX} {v : SY} (I : i_Rel k u v) (hk : k + 4 ≤ 2050) : wpX_best (fun r u' => wpY_best (fun r' v' => r' = r ∧ i_Rel (k + 4) u' v') v) u := by
  refine td_el (P := fun u v => wpX_best (fun r u' => wpY_best (fun r' v' => r' = r ∧ i_Rel (k + 4) u' v') v) u) I ?_
  intro n ft fl fk fo aL aR aN aP aG aD aC aB aV aT yL h3 h7 hL hR hI
  unfold wpX_best
  refine wx_findTour h3 h7 hL hR hI (fun fk' fo' aN' aT' s hk' hInf => ?_)
  refine wy_best h3 h7 hL hR (fun r yL' hM => ⟨td_Min_uniq hM hInf.1, td_in h3 h7 hL hR (fun _ => hInf)⟩)

theorem i_vc_cityAt {k : Nat} {u : SX} {v : SY} (I : i_Rel k u v) (hk : k + 4 ≤ 2050) (v1 : Int32) : wpX_cityAt (fun r u' => wpY_cityAt (fun r' v' => r' = r ∧ i_Rel (k + 4) u' v') v v1) u v1 := by
  refine td_el (P := fun u v => wpX_cityAt (fun r u' => wpY_cityAt (fun r' v' => r' = r ∧ i_Rel (k + 4) u' v') v v1) u v1) I ?_
  intro n ft fl fk fo aL aR aN aP aG aD aC aB aV aT yL h3 h7 hL hR hI
  unfold wpX_cityAt
  refine wx_findTour h3 h7 hL hR hI (fun fk' fo' aN' aT' s hk' hInf => ?_)
  have hin := fun yL' => td_in (k := k + 4) (ft := s.1) (fl := s.2.1) (aN := aN') (aP := s.2.2.1) (aG := s.2.2.2.1) (aD := s.2.2.2.2.1) (aC := s.2.2.2.2.2.1) (aB := s.2.2.2.2.2.2.1) (aV := s.2.2.2.2.2.2.2) (fk := fk') (yL := yL') h3 h7 hL hR (fun _ => hInf)
  have hY : ∀ (post : Int32 → SY → Prop), (∀ yL', (fo' < 0 → post (-1) (nI n, nI (td_fac (n - 1)), aL, aR, yL')) ∧ (¬ fo' < 0 → (v1 < 0 → post (-1) (nI n, nI (td_fac (n - 1)), aL, aR, yL')) ∧ (¬ v1 < 0 → (v1 < nI n → ∃ n25, wY_cityAt_25 post v1 fo' n25 0 (nI n) (nI (td_fac (n - 1))) aL aR yL') ∧ (¬ v1 < nI n → post (-1) (nI n, nI (td_fac (n - 1)), aL, aR, yL'))))) → wpY_cityAt post (nI n, nI (td_fac (n - 1)), aL, aR, yL) v1 := by
    intro post h
    unfold wpY_cityAt
    refine wy_best h3 h7 hL hR (fun r yL' hM => ?_)
    rw [td_Min_uniq hM hInf.1]
    exact h yL'
  refine br_c (fun q => hY _ (fun yL' => br_t q ⟨rfl, hin yL'⟩)) (fun q => br_c (fun q1 => hY _ (fun yL' => br_f q (br_t q1 ⟨rfl, hin yL'⟩))) (fun q1 => br_c (fun q2 => ?_) (fun q2 => hY _ (fun yL' => br_f q (br_f q1 (br_f q2 ⟨rfl, hin yL'⟩))))))
  obtain ⟨j, hj, e, _⟩ := pk_mu q1 (Int32.not_le.mpr q2) (by omega)
  subst e
  obtain ⟨p, p1, p2, p3, p4, p5⟩ := hInf.2 q
  refine ⟨tx_in (by omega) (by omega), ?_⟩
  rw [tx_c (by omega), p5 j hj]
  refine hY _ (fun yL' => br_f q (br_f q1 (br_t q2 ?_)))
  refine wy_cityAt h3 h7 hL hR hj ⟨p, p1, p2, p3⟩ (fun p' yL2 a1 a2 a3 => ⟨?_, hin yL2⟩)
  rw [td_first (C := fun p => td_Cons n aR p ∧ td_cost aL p = fo'.toInt) h3 h7 a1 p1 a2 ⟨p2, p3⟩ a3 (fun p'' b1 b2 => p4 p'' b1 b2.1 b2.2)]

theorem i_vc_bestWith {k : Nat} {u : SX} {v : SY} (I : i_Rel k u v) (hk : k + 4 ≤ 2050) (v1 : Int32) (v2 : Int32) : wpX_bestWith (fun r u' => wpY_bestWith (fun r' v' => r' = r ∧ i_Rel (k + 4) u' v') v v1 v2) u v1 v2 := by
  refine td_el (P := fun u v => wpX_bestWith (fun r u' => wpY_bestWith (fun r' v' => r' = r ∧ i_Rel (k + 4) u' v') v v1 v2) u v1 v2) I ?_
  intro n ft fl fk fo aL aR aN aP aG aD aC aB aV aT yL h3 h7 hL hR hI
  by_cases hl : td_lnk n v1 v2
  · obtain ⟨a, b, ha, hb, hne, rfl, rfl⟩ := hl
    exact wx_bestWith h3 h7 hL hR ha hb hne (fun r aN' s hM => wy_bestWith h3 h7 hL hR ha hb hne (fun r' yL' hM' => ⟨td_Min_uniq hM' hM, td_in h3 h7 hL hR hI⟩))
  · exact wx_bestWith0 h7 hl (wy_bestWith0 h7 hl ⟨rfl, td_in h3 h7 hL hR hI⟩)

theorem i_vc_bestWithout {k : Nat} {u : SX} {v : SY} (I : i_Rel k u v) (hk : k + 4 ≤ 2050) (v1 : Int32) (v2 : Int32) : wpX_bestWithout (fun r u' => wpY_bestWithout (fun r' v' => r' = r ∧ i_Rel (k + 4) u' v') v v1 v2) u v1 v2 := by
  refine td_el (P := fun u v => wpX_bestWithout (fun r u' => wpY_bestWithout (fun r' v' => r' = r ∧ i_Rel (k + 4) u' v') v v1 v2) u v1 v2) I ?_
  intro n ft fl fk fo aL aR aN aP aG aD aC aB aV aT yL h3 h7 hL hR hI
  by_cases hl : td_lnk n v1 v2
  · obtain ⟨a, b, ha, hb, hne, rfl, rfl⟩ := hl
    exact wx_bestWithout h3 h7 hL hR ha hb hne (fun r aN' s hM => wy_bestWithout h3 h7 hL hR ha hb hne (fun r' yL' hM' => ⟨td_Min_uniq hM' hM, td_in h3 h7 hL hR hI⟩))
  · exact wx_bestWithout0 h7 hl (wy_bestWithout0 h7 hl ⟨rfl, td_in h3 h7 hL hR hI⟩)

theorem i_vc_neighbours {k : Nat} {u : SX} {v : SY} (I : i_Rel k u v) (hk : k + 4 ≤ 2050) (v1 : Int32) : wpX_neighbours (fun r u' => wpY_neighbours (fun r' v' => r' = r ∧ i_Rel (k + 4) u' v') v v1) u v1 := by
  refine td_el (P := fun u v => wpX_neighbours (fun r u' => wpY_neighbours (fun r' v' => r' = r ∧ i_Rel (k + 4) u' v') v v1) u v1) I ?_
  intro n ft fl fk fo aL aR aN aP aG aD aC aB aV aT yL h3 h7 hL hR hI
  unfold wpX_neighbours
  refine wx_findTour h3 h7 hL hR hI (fun fk' fo' aN' aT' s hk' hInf => ?_)
  have hin := fun aN2 (z : tx_Sc) yL' => td_in (k := k + 4) (ft := z.1) (fl := z.2.1) (aN := aN2) (aP := z.2.2.1) (aG := z.2.2.2.1) (aD := z.2.2.2.2.1) (aC := z.2.2.2.2.2.1) (aB := z.2.2.2.2.2.2.1) (aV := z.2.2.2.2.2.2.2) (fk := fk') (yL := yL') h3 h7 hL hR (fun _ => hInf)
  have hY : ∀ (post : Int32 → SY → Prop), (∀ yL', (fo' < 0 → post 0 (nI n, nI (td_fac (n - 1)), aL, aR, yL')) ∧ (¬ fo' < 0 → (v1 < 0 → post 0 (nI n, nI (td_fac (n - 1)), aL, aR, yL')) ∧ (¬ v1 < 0 → (v1 < nI n → ∃ n28, wY_neighbours_28 post v1 fo' n28 0 0 (nI n) (nI (td_fac (n - 1))) aL aR yL') ∧ (¬ v1 < nI n → post 0 (nI n, nI (td_fac (n - 1)), aL, aR, yL'))))) → wpY_neighbours post (nI n, nI (td_fac (n - 1)), aL, aR, yL) v1 := by
    intro post h
    unfold wpY_neighbours
    refine wy_best h3 h7 hL hR (fun r yL' hM => ?_)
    rw [td_Min_uniq hM hInf.1]
    exact h yL'
  have hbad : (fo' < 0 ∨ v1 < 0 ∨ ¬ v1 < nI n) → ∀ (post : Int32 → SY → Prop), (∀ yL', post 0 (nI n, nI (td_fac (n - 1)), aL, aR, yL')) → wpY_neighbours post (nI n, nI (td_fac (n - 1)), aL, aR, yL) v1 := by
    intro hb post h
    refine hY post (fun yL' => br_c (fun _ => h yL') (fun q => br_c (fun _ => h yL') (fun q1 => br_c (fun q2 => absurd hb ?_) (fun _ => h yL'))))
    intro hb
    rcases hb with hb | hb | hb
    · exact q hb
    · exact q1 hb
    · exact hb q2
  refine br_c (fun q => hbad (Or.inr (Or.inl q)) _ (fun yL' => ⟨rfl, hin aN' s yL'⟩)) (fun q => br_c (fun q1 => hbad (Or.inr (Or.inr (Int32.not_lt.mpr q1))) _ (fun yL' => ⟨rfl, hin aN' s yL'⟩)) (fun q1 => br_c (fun q2 => ?_) (fun q2 => hbad (Or.inl (Int32.not_le.mp q2)) _ (fun yL' => ⟨rfl, hin aN' s yL'⟩))))
  obtain ⟨a, ha, e, _⟩ := pk_mu q q1 (by omega)
  subst e
  have q2' := Int32.not_lt.mpr q2
  refine wx_neighbours h3 h7 hL hR ha hInf.1 q2' (fun st aN2 z hNB => ?_)
  exact hY _ (fun yL' => br_f q2' (br_f q (br_t (Int32.not_le.mp q1) (wy_neighbours h3 h7 hL hR ha (fun st' yL2 hNB' => ⟨td_NB_uniq hNB hNB', hin aN2 z yL2⟩)))))

theorem i_vc_limit {k : Nat} {u : SX} {v : SY} (I : i_Rel k u v) (hk : k + 4 ≤ 2050) (v1 : Int32) (v2 : Int32) : wpX_limit (fun r u' => wpY_limit (fun r' v' => r' = r ∧ i_Rel (k + 4) u' v') v v1 v2) u v1 v2 := by
  refine td_el (P := fun u v => wpX_limit (fun r u' => wpY_limit (fun r' v' => r' = r ∧ i_Rel (k + 4) u' v') v v1 v2) u v1 v2) I ?_
  intro n ft fl fk fo aL aR aN aP aG aD aC aB aV aT yL h3 h7 hL hR hI
  unfold wpX_limit
  by_cases hl : td_lnk n v1 v2
  · obtain ⟨a, b, ha, hb, hne, rfl, rfl⟩ := hl
    refine wx_bestWith h3 h7 hL hR ha hb hne (fun r1 aN1 s1 hM1 => ?_)
    have hY : ∀ (post : Int32 → SY → Prop), (∀ r2 yL', td_Min n aL (fun p => td_nm a b ∉ td_T p ∧ td_Cons n aR p) r2 → (0 ≤ r1 → ∃ n25, wY_limit_25 post (nI a) (nI b) r1 r2 (nI n) (nI (td_fac (n - 1))) aL aR yL' n25 99) ∧ (¬ 0 ≤ r1 → post (-1) (nI n, nI (td_fac (n - 1)), aL, aR, yL'))) → wpY_limit post (nI n, nI (td_fac (n - 1)), aL, aR, yL) (nI a) (nI b) := by
      intro post h
      unfold wpY_limit
      refine wy_bestWith h3 h7 hL hR ha hb hne (fun r yL' hM => ?_)
      rw [td_Min_uniq hM hM1]
      exact wy_bestWithout h3 h7 hL hR ha hb hne (fun r2 yL2 hM2 => h r2 yL2 hM2)
    refine br_c (fun q => ?_) (fun q => hY _ (fun r2 yL' _ => br_f q ⟨rfl, td_in h3 h7 hL hR hI⟩))
    have g1 := td_Min_le h3 h7 hL hM1
    have g0 : 0 ≤ r1.toInt := by
      rw [Int32.le_iff_toInt_le, Int32.toInt_zero] at q
      exact q
    have gl := hL a b (by omega) (by omega)
    refine wx_bestWithout h3 h7 hL hR ha hb hne (fun r2 aN2 s2 hM2 => ?_)
    have g2 := td_Min_le h3 h7 hL hM2
    have hin := fun yL' => td_in (k := k + 4) (ft := s2.1) (fl := s2.2.1) (aN := aN2) (aP := s2.2.2.1) (aG := s2.2.2.2.1) (aD := s2.2.2.2.2.1) (aC := s2.2.2.2.2.2.1) (aB := s2.2.2.2.2.2.2.1) (aV := s2.2.2.2.2.2.2.2) (fk := fk) (yL := yL') h3 h7 hL hR hI
    have hY2 : ∀ (v : Int32), (∀ (post : Int32 → SY → Prop) yL', post v (nI n, nI (td_fac (n - 1)), aL, aR, yL') → ∃ n25, wY_limit_25 post (nI a) (nI b) r1 r2 (nI n) (nI (td_fac (n - 1))) aL aR yL' n25 99) → wpY_limit (fun r' v' => r' = v ∧ i_Rel (k + 4) (nI n, s2.1, s2.2.1, fk, fo, aL, aR, aN2, s2.2.2.1, s2.2.2.2.1, s2.2.2.2.2.1, s2.2.2.2.2.2.1, s2.2.2.2.2.2.2.1, s2.2.2.2.2.2.2.2, aT) v') (nI n, nI (td_fac (n - 1)), aL, aR, yL) (nI a) (nI b) := by
      intro v h
      refine hY _ (fun r2' yL' hM' => br_t q ?_)
      rw [td_Min_uniq hM' hM2]
      exact h _ yL' ⟨rfl, hin yL'⟩
    have eR : (r1 - aL (a * 7 + b)).toInt = r1.toInt - (aL (a * 7 + b)).toInt := by
      have e : r1 - aL (a * 7 + b) = Int32.ofInt (r1.toInt - (aL (a * 7 + b)).toInt) := by rw [Int32.ofInt_sub, Int32.ofInt_toInt, Int32.ofInt_toInt]
      rw [e, Int32.toInt_ofInt_of_le (by omega) (by omega)]
    have eD : (r2 - (r1 - aL (a * 7 + b))).toInt = r2.toInt - (r1.toInt - (aL (a * 7 + b)).toInt) := by
      have e : r2 - (r1 - aL (a * 7 + b)) = Int32.ofInt (r2.toInt - (r1.toInt - (aL (a * 7 + b)).toInt)) := by rw [Int32.ofInt_sub, Int32.ofInt_sub, Int32.ofInt_toInt, Int32.ofInt_toInt, Int32.ofInt_toInt]
      rw [e, Int32.toInt_ofInt_of_le (by omega) (by omega)]
    have e99 : (99 : Int32).toInt = 99 := by decide
    have hfirst : ∀ (post : Int32 → SY → Prop) yL', (r2 < 0 ∨ 99 ≤ r2.toInt - (r1.toInt - (aL (a * 7 + b)).toInt)) → post 99 (nI n, nI (td_fac (n - 1)), aL, aR, yL') → ∃ n25, wY_limit_25 post (nI a) (nI b) r1 r2 (nI n) (nI (td_fac (n - 1))) aL aR yL' n25 99 := by
      intro post yL' hc K
      refine ⟨1, br_f (by decide) ?_⟩
      rw [tx_ix, tx_c (by omega)]
      refine ⟨tx_in (by omega) (by omega), nm_e (br_c (fun _ => K) (fun hn => br_f ?_ K))⟩
      have hc := hc.resolve_left hn
      have e : r1 - aL (a * 7 + b) + 99 = Int32.ofInt (r1.toInt - (aL (a * 7 + b)).toInt + 99) := by
        rw [Int32.ofInt_add, ← eR, Int32.ofInt_toInt]
        rfl
      rw [Int32.lt_iff_toInt_lt, e, Int32.toInt_ofInt_of_le (by omega) (by omega)]
      omega
    rw [tx_ix, tx_c (by omega)]
    refine ⟨tx_in (by omega) (by omega), nm_e (br_c (fun q2 => hY2 99 (fun post yL' K => hfirst post yL' (Or.inl q2) K)) (fun q2 => br_c (fun q4 => br_c (fun q5 => hY2 _ (fun post yL' K => ?_)) (fun q5 => hY2 _ (fun post yL' K => ?_))) (fun q4 => hY2 99 (fun post yL' K => hfirst post yL' (Or.inr ?_) K))))⟩
    · rw [Int32.lt_iff_toInt_lt, Int32.toInt_zero] at q2
      rw [Int32.le_iff_toInt_le, eD, e99] at q4
      rw [Int32.le_iff_toInt_le, eR] at q5
      exact ⟨_, wy_limit (by omega) (by omega) eR rfl (by omega) (by omega) (by omega) (by omega) K 99 (by omega) (Or.inl ⟨q5, eD, q4⟩)⟩
    · rw [Int32.lt_iff_toInt_lt, Int32.toInt_zero] at q2
      rw [Int32.le_iff_toInt_le, eR] at q5
      exact ⟨_, wy_limit (by omega) (by omega) eR rfl (by omega) (by omega) (by omega) (by omega) K 99 (by omega) (Or.inr ⟨by omega, rfl⟩)⟩
    · rw [Int32.le_iff_toInt_le, eD, e99] at q4
      omega
  · refine wx_bestWith0 h7 hl (br_f (by decide) ?_)
    unfold wpY_limit
    exact wy_bestWith0 h7 hl (wy_bestWithout0 h7 hl (br_f (by decide) ⟨rfl, td_in h3 h7 hL hR hI⟩))
end
