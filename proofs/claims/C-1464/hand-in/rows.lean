section
/-! pure rows to paste: stores, nI and lN arithmetic, masks, shifts, narrowing, branches by naturals (pk_le, pk_lt, pk_eq), loops (lp1 .. lp16: the measure of the state; rp1 ..: recursion), negatives. Take what you need -/
theorem pk_us {f : Nat → Int32} {k : Nat} {x : Int32} : upd f k x k = x := if_pos rfl
theorem pk_un {f : Nat → Int32} {k j : Nat} {x : Int32} (h : j ≠ k) : upd f k x j = f j := if_neg h
theorem pk_uLs {f : Nat → Int64} {k : Nat} {x : Int64} : vp_updL f k x k = x := if_pos rfl
theorem pk_uLn {f : Nat → Int64} {k j : Nat} {x : Int64} (h : j ≠ k) : vp_updL f k x j = f j := if_neg h
theorem pk_sub {a b : Nat} (h : b ≤ a) : nI a - nI b = nI (a - b) := by
  obtain ⟨c, rfl⟩ : ∃ c, a = c + b := ⟨a - b, by omega⟩
  rw [← nI_add, Int32.add_sub_cancel, Nat.add_sub_cancel]
theorem pk_m1 (n : Nat) : nI (n + 1) + (-1) = nI n := by
  rw [← nI_1, Int32.add_assoc, show (1 : Int32) + (-1) = 0 from rfl, Int32.add_zero]
theorem pk_mul (a b : Nat) : nI a * nI b = nI (a * b) := (Int32.ofNat_mul a b).symm
theorem pk_div {a d : Nat} (ha : a < 2 ^ 31) (h0 : 0 < d) (hd : d < 2 ^ 31) : nI a / nI d = nI (a / d) := by
  apply Int32.toInt_inj.mp
  rw [lg_idiv_nonneg (by rw [nI_toInt ha]; omega) (by rw [nI_toInt hd]; omega), nI_toInt ha, nI_toInt hd, nI_toInt (Nat.lt_of_le_of_lt (Nat.div_le_self a d) ha)]
  first | rfl | exact (Int.natCast_ediv _ _).symm
theorem pk_rem {a d : Nat} (ha : a < 2 ^ 31) (h0 : 0 < d) (hd : d < 2 ^ 31) : nI a - nI a / nI d * nI d = nI (a % d) := by
  rw [pk_div ha h0 hd, pk_mul, pk_sub (Nat.div_mul_le_self a d)]
  exact congrArg nI (by have := Nat.div_add_mod' a d; omega)
theorem pk_sub_toInt {a b : Nat} (ha : a < 2 ^ 30) (hb : b < 2 ^ 30) : (nI a - nI b).toInt = (a : Int) - b := by
  rw [Int32.toInt_sub, nI_toInt (by omega), nI_toInt (by omega)]
  exact Int.bmod_eq_of_le (by omega) (by omega)
theorem pk_sneg {a b : Nat} (hb : b < 2 ^ 30) (h : a < b) : nI a - nI b < 0 := by
  rw [Int32.lt_iff_toInt_lt, pk_sub_toInt (by omega) hb, show (0 : Int32).toInt = 0 from by decide]
  omega
theorem pk_ix (x : Int32) {n : Nat} (hn : n < 2 ^ 31) : x < 0 ∨ nI n ≤ x ∨ ∃ j : Nat, j < n ∧ x = nI j := by
  by_cases h : x < 0
  · exact Or.inl h
  · obtain ⟨j, hj, rfl⟩ := nI_of h
    by_cases h2 : j < n
    · exact Or.inr (Or.inr ⟨j, h2, rfl⟩)
    · exact Or.inr (Or.inl (nI_le (by omega) hj))
theorem pk_le {x y : Int32} {A B : Prop} (a b : Nat) (f : a ≤ b → A) (g : b < a → B) (hx : x = nI a := by rfl) (hy : y = nI b := by rfl) (ha : a < 2 ^ 31 := by omega) (hb : b < 2 ^ 31 := by omega) : (x ≤ y → A) ∧ (¬ x ≤ y → B) := by
  subst hx hy
  rw [nI_leI ha hb]
  exact ⟨f, fun z => g (by omega)⟩
theorem pk_lt {x y : Int32} {A B : Prop} (a b : Nat) (f : a < b → A) (g : b ≤ a → B) (hx : x = nI a := by rfl) (hy : y = nI b := by rfl) (ha : a < 2 ^ 31 := by omega) (hb : b < 2 ^ 31 := by omega) : (x < y → A) ∧ (¬ x < y → B) := by
  subst hx hy
  rw [nI_ltI ha hb]
  exact ⟨f, fun z => g (by omega)⟩
theorem pk_eq {x y : Int32} {A B : Prop} (a b : Nat) (f : a = b → A) (g : a ≠ b → B) (hx : x = nI a := by rfl) (hy : y = nI b := by rfl) (ha : a < 2 ^ 31 := by omega) (hb : b < 2 ^ 31 := by omega) : (x = y → A) ∧ (¬ x = y → B) := by
  subst hx hy
  rw [nI_eq ha hb]
  exact ⟨f, g⟩
theorem pk_in {x : Int32} (n N : Nat) (h : n < N) (hx : x = nI n := by rfl) (hN : N < 2 ^ 31 := by omega) : vp_in x N := by
  subst hx
  exact vp_in_nI h hN
theorem pk_cl {x : Int32} (n : Nat) (hx : x = nI n := by rfl) (h : n < 2 ^ 31 := by omega) : x.toNatClampNeg = n := by
  subst hx
  exact nI_clamp h
theorem pk_tn {n : Nat} (h : n < 2 ^ 32) : (nI n).toBitVec.toNat = n := Nat.mod_eq_of_lt h
theorem pk_and (x : Int32) {m : Int32} (k : Nat) (hm : m.toBitVec.toNat = 2 ^ k - 1) : x &&& m = nI (x.toBitVec.toNat % 2 ^ k) := by
  apply Int32.toBitVec_inj.mp
  apply BitVec.eq_of_toNat_eq
  rw [Int32.toBitVec_and, BitVec.toNat_and, hm, Nat.and_two_pow_sub_one_eq_mod]
  show _ = (BitVec.ofNat 32 _).toNat
  rw [BitVec.toNat_ofNat]
  exact (Nat.mod_eq_of_lt (Nat.lt_of_le_of_lt (Nat.mod_le _ _) x.toBitVec.isLt)).symm
theorem pk_andN {n : Nat} (h : n < 2 ^ 32) {m : Int32} (k : Nat) (hm : m.toBitVec.toNat = 2 ^ k - 1) : nI n &&& m = nI (n % 2 ^ k) := by
  rw [pk_and _ k hm, pk_tn h]
theorem pk_andE (x : Int32) {m : Int32} (k : Nat) (hm : m.toBitVec.toNat = 2 ^ k - 1) : ∃ j : Nat, j < 2 ^ k ∧ x &&& m = nI j := ⟨_, Nat.mod_lt _ (Nat.two_pow_pos k), pk_and x k hm⟩
theorem pk_andIn (x : Int32) {m : Int32} (k : Nat) (hm : m.toBitVec.toNat = 2 ^ k - 1) (hk : k ≤ 30) : vp_in (x &&& m) (2 ^ k) := by
  obtain ⟨j, hj, e⟩ := pk_andE x k hm
  rw [e]
  exact vp_in_nI hj (Nat.lt_of_le_of_lt (Nat.pow_le_pow_right (by decide) hk) (by decide))
theorem pk_shl (a s : Int32) (k : Nat) (hs : (s.toBitVec.smod 32).toNat = k) : (a <<< s).toBitVec.toNat = a.toBitVec.toNat * 2 ^ k % 2 ^ 32 := by
  show (a.toBitVec <<< (s.toBitVec.smod 32).toNat).toNat = _
  rw [hs, BitVec.toNat_shiftLeft, Nat.shiftLeft_eq]
theorem pk_shlN {n : Nat} (s : Int32) (k : Nat) (hs : (s.toBitVec.smod 32).toNat = k) (h : n * 2 ^ k < 2 ^ 32) : nI n <<< s = nI (n * 2 ^ k) := by
  apply Int32.toBitVec_inj.mp
  apply BitVec.eq_of_toNat_eq
  have hn : n < 2 ^ 32 := Nat.lt_of_le_of_lt (Nat.le_mul_of_pos_right n (Nat.two_pow_pos k)) h
  rw [pk_shl _ _ k hs, pk_tn hn, pk_tn h, Nat.mod_eq_of_lt h]
theorem pk_shr (a s : Int32) (k : Nat) (hs : (s.toBitVec.smod 32).toNat = k) : (a >>> s).toInt = a.toInt >>> k := by
  show (a.toBitVec.sshiftRight (s.toBitVec.smod 32).toNat).toInt = _
  rw [hs, BitVec.toInt_sshiftRight]
  rfl
theorem pk_shrN {n : Nat} (h : n < 2 ^ 31) (s : Int32) (k : Nat) (hs : (s.toBitVec.smod 32).toNat = k) : nI n >>> s = nI (n / 2 ^ k) := by
  apply Int32.toInt_inj.mp
  have h2 : n / 2 ^ k ≤ n := Nat.div_le_self _ _
  rw [pk_shr _ _ k hs, nI_toInt h, nI_toInt (by omega), Int.shiftRight_eq_div_pow]
  rfl
theorem pk_ushr (x s : Int32) (k : Nat) (hs : ((s.toUInt32 &&& Int32.toUInt32 31).toBitVec % 32).toNat = k) : (x.toUInt32 >>> (s.toUInt32 &&& Int32.toUInt32 31)).toInt32.toBitVec.toNat = x.toBitVec.toNat / 2 ^ k := by
  have e : (x.toUInt32 >>> (s.toUInt32 &&& Int32.toUInt32 31)).toInt32.toBitVec = x.toBitVec >>> k := by
    rw [← hs]
    exact UInt32.toBitVec_shiftRight _ _
  rw [e, BitVec.toNat_ushiftRight, Nat.shiftRight_eq_div_pow]
theorem pk_ushrN {n : Nat} (hn : n < 2 ^ 32) (s : Int32) (k : Nat) (hs : ((s.toUInt32 &&& Int32.toUInt32 31).toBitVec % 32).toNat = k) : ((nI n).toUInt32 >>> (s.toUInt32 &&& Int32.toUInt32 31)).toInt32 = nI (n / 2 ^ k) := by
  apply Int32.toBitVec_inj.mp
  apply BitVec.eq_of_toNat_eq
  rw [pk_ushr _ s k hs, pk_tn hn, pk_tn (Nat.lt_of_le_of_lt (Nat.div_le_self _ _) hn)]
theorem pk_nb (z : Int32) : narrow .byte (.int z.toInt8.toInt32) = .int z.toInt8.toInt32 := congrArg Value.int (by simp)
theorem pk_ns (z : Int32) : narrow .short (.int z.toInt16.toInt32) = .int z.toInt16.toInt32 := congrArg Value.int (by simp)
theorem pk_fb (r : Int32) : fits .byte (.int r.toInt8.toInt32) = true := by
  have ⟨a, b⟩ := lg_i2b_range r
  have h1 : (-128 : Int32).toInt = -128 := by decide
  have h2 : (127 : Int32).toInt = 127 := by decide
  simp only [fits, Bool.and_eq_true, decide_eq_true_eq, Int32.le_iff_toInt_le, h1, h2]
  omega
theorem pk_fs (r : Int32) : fits .short (.int r.toInt16.toInt32) = true := by
  have ⟨a, b⟩ := lg_i2s_range r
  have h1 : (-32768 : Int32).toInt = -32768 := by decide
  have h2 : (32767 : Int32).toInt = 32767 := by decide
  simp only [fits, Bool.and_eq_true, decide_eq_true_eq, Int32.le_iff_toInt_le, h1, h2]
  omega
theorem pk_charN {q : Nat} (hq : q < 65536) : narrow .char (.int (nI q)) = .int (nI q) ∧ fits .char (.int (nI q)) = true := by
  constructor
  · have e : (nI q).toUInt32.toUInt16.toUInt32.toInt32 = nI q := by
      apply Int32.toBitVec_inj.mp
      apply BitVec.eq_of_toNat_eq
      show (nI q).toUInt32.toUInt16.toUInt32.toNat = q % 2 ^ 32
      rw [UInt16.toNat_toUInt32, UInt32.toNat_toUInt16, show (nI q).toUInt32.toNat = q % 2 ^ 32 from rfl]
      omega
    exact congrArg Value.int e
  · have a : (0 : Int32) ≤ nI q := nI_pos' (by omega)
    have b : nI q ≤ 65535 := nI_le (b := 65535) (by omega) (by decide)
    show (decide ((0 : Int32) ≤ nI q) && decide (nI q ≤ 65535)) = true
    rw [decide_eq_true a, decide_eq_true b]
    rfl
theorem pk_char (x : Int32) : (x.toUInt32 % 65536).toInt32 = nI (x.toBitVec.toNat % 65536) := by
  apply Int32.toBitVec_inj.mp
  apply BitVec.eq_of_toNat_eq
  rw [pk_tn (by omega)]
  show (x.toUInt32 % 65536).toNat = _
  rw [UInt32.toNat_mod]
  rfl
theorem pk_nc (x : Int32) : narrow .char (.int (x.toUInt32 % 65536).toInt32) = .int (x.toUInt32 % 65536).toInt32 := by
  rw [pk_char]
  exact (pk_charN (Nat.mod_lt _ (by decide))).1
theorem pk_fc (x : Int32) : fits .char (.int (x.toUInt32 % 65536).toInt32) = true := by
  rw [pk_char]
  exact (pk_charN (Nat.mod_lt _ (by decide))).2
theorem pk_vb (z : Int32) : vp_nar .byte z.toInt8.toInt32 = z.toInt8.toInt32 := by rw [vp_nar_byte]; simp
theorem pk_vs (z : Int32) : vp_nar .short z.toInt16.toInt32 = z.toInt16.toInt32 := by rw [vp_nar_short]; simp
theorem pk_vc (z : Int32) : vp_nar .char (z.toUInt32 % 65536).toInt32 = (z.toUInt32 % 65536).toInt32 := Value.int.inj (pk_nc z)
theorem pk_lT {n : Nat} (h : n < 2 ^ 63) : (lN n).toInt = (n : Int) := lg_ofNat_toInt h
theorem pk_lLT {a b : Nat} (ha : a < 2 ^ 63) (hb : b < 2 ^ 63) : lN a < lN b ↔ a < b := by
  rw [Int64.lt_iff_toInt_lt, pk_lT ha, pk_lT hb]; omega
theorem pk_lLE {a b : Nat} (ha : a < 2 ^ 63) (hb : b < 2 ^ 63) : lN a ≤ lN b ↔ a ≤ b := by
  rw [Int64.le_iff_toInt_le, pk_lT ha, pk_lT hb]; omega
theorem pk_lEQ {a b : Nat} (ha : a < 2 ^ 63) (hb : b < 2 ^ 63) : lN a = lN b ↔ a = b := by
  rw [← Int64.toInt_inj, pk_lT ha, pk_lT hb]; omega
theorem pk_lOf {x : Int64} (h : ¬ x < 0) : ∃ k : Nat, k < 2 ^ 63 ∧ x = lN k := by
  rw [Int64.lt_iff_toInt_lt] at h
  have h0 : (0 : Int64).toInt = 0 := by decide
  have hx := Int64.toInt_lt x
  refine ⟨x.toInt.toNat, by omega, Int64.toInt_inj.mp ?_⟩
  rw [pk_lT (by omega)]
  omega
theorem pk_lDiv {a b : Nat} (ha : a < 2 ^ 63) (h0 : 0 < b) (hb : b < 2 ^ 63) : lN a / lN b = lN (a / b) := by
  apply Int64.toInt_inj.mp
  rw [lg_ldiv_nonneg (by rw [pk_lT ha]; omega) (by rw [pk_lT hb]; omega), pk_lT ha, pk_lT hb, pk_lT (Nat.lt_of_le_of_lt (Nat.div_le_self a b) ha)]
  rfl
theorem pk_lRem {a b : Nat} (ha : a < 2 ^ 63) (h0 : 0 < b) (hb : b < 2 ^ 63) : lN a - lN a / lN b * lN b = lN (a % b) := by
  rw [pk_lDiv ha h0 hb, lN_mul, lN_sub (Nat.div_mul_le_self a b)]
  exact congrArg lN (by have := Nat.div_add_mod' a b; omega)
theorem pk_loop {σ : Type} (W : Nat → Nat → σ → Prop) (I : Nat → σ → Prop) (e i0 : Nat) (s : σ) (hi : i0 ≤ e) (h0 : I i0 s) (hx : ∀ n s, I e s → W (n + 1) e s)
    (hs : ∀ n i s, i < e → I i s → (∀ s', I (i + 1) s' → W n (i + 1) s') → W (n + 1) i s) : ∃ n, W n i0 s :=
  ⟨e + 1, loop_i W I e hx hs (e + 1) i0 s hi (by omega) h0⟩
theorem pk_loopD {σ : Type} (W : Nat → Nat → σ → Prop) (I : Nat → σ → Prop) (hx : ∀ n s, I 0 s → W (n + 1) 0 s)
    (hs : ∀ n i s, I (i + 1) s → (∀ s', I i s' → W n i s') → W (n + 1) (i + 1) s) : ∀ (e : Nat) (s : σ), I e s → W (e + 1) e s := by
  intro e
  induction e with
  | zero => exact fun s h => hx 0 s h
  | succ e ih => exact fun s h => hs (e + 1) e s h (fun s' h' => ih s' h')
theorem lp1 {A1 : Type} (W : Nat → A1 → Prop) (I : A1 → Prop) (μ : A1 → Nat) (hs : ∀ (n : Nat) (a1 : A1), I a1 → (∀ (b1 : A1), I b1 → μ b1 < μ a1 → W n b1) → W (n + 1) a1) (a1 : A1) (h : I a1) : ∃ n, W n a1 :=
  loop_m (σ := A1) (fun n s => W n s) (fun s => I s) (fun s => μ s) (fun n s hI hk => hs n s hI (fun b1 h9 hm => hk b1 h9 hm)) a1 h
theorem lp2 {A1 A2 : Type} (W : Nat → A1 → A2 → Prop) (I : A1 → A2 → Prop) (μ : A1 → A2 → Nat) (hs : ∀ (n : Nat) (a1 : A1) (a2 : A2), I a1 a2 → (∀ (b1 : A1) (b2 : A2), I b1 b2 → μ b1 b2 < μ a1 a2 → W n b1 b2) → W (n + 1) a1 a2) (a1 : A1) (a2 : A2) (h : I a1 a2) : ∃ n, W n a1 a2 :=
  loop_m (σ := A1 × A2) (fun n s => W n s.1 s.2) (fun s => I s.1 s.2) (fun s => μ s.1 s.2) (fun n s hI hk => hs n s.1 s.2 hI (fun b1 b2 h9 hm => hk (b1, b2) h9 hm)) (a1, a2) h
theorem lp3 {A1 A2 A3 : Type} (W : Nat → A1 → A2 → A3 → Prop) (I : A1 → A2 → A3 → Prop) (μ : A1 → A2 → A3 → Nat) (hs : ∀ (n : Nat) (a1 : A1) (a2 : A2) (a3 : A3), I a1 a2 a3 → (∀ (b1 : A1) (b2 : A2) (b3 : A3), I b1 b2 b3 → μ b1 b2 b3 < μ a1 a2 a3 → W n b1 b2 b3) → W (n + 1) a1 a2 a3) (a1 : A1) (a2 : A2) (a3 : A3) (h : I a1 a2 a3) : ∃ n, W n a1 a2 a3 :=
  loop_m (σ := A1 × A2 × A3) (fun n s => W n s.1 s.2.1 s.2.2) (fun s => I s.1 s.2.1 s.2.2) (fun s => μ s.1 s.2.1 s.2.2) (fun n s hI hk => hs n s.1 s.2.1 s.2.2 hI (fun b1 b2 b3 h9 hm => hk (b1, b2, b3) h9 hm)) (a1, a2, a3) h
theorem lp4 {A1 A2 A3 A4 : Type} (W : Nat → A1 → A2 → A3 → A4 → Prop) (I : A1 → A2 → A3 → A4 → Prop) (μ : A1 → A2 → A3 → A4 → Nat) (hs : ∀ (n : Nat) (a1 : A1) (a2 : A2) (a3 : A3) (a4 : A4), I a1 a2 a3 a4 → (∀ (b1 : A1) (b2 : A2) (b3 : A3) (b4 : A4), I b1 b2 b3 b4 → μ b1 b2 b3 b4 < μ a1 a2 a3 a4 → W n b1 b2 b3 b4) → W (n + 1) a1 a2 a3 a4) (a1 : A1) (a2 : A2) (a3 : A3) (a4 : A4) (h : I a1 a2 a3 a4) : ∃ n, W n a1 a2 a3 a4 :=
  loop_m (σ := A1 × A2 × A3 × A4) (fun n s => W n s.1 s.2.1 s.2.2.1 s.2.2.2) (fun s => I s.1 s.2.1 s.2.2.1 s.2.2.2) (fun s => μ s.1 s.2.1 s.2.2.1 s.2.2.2) (fun n s hI hk => hs n s.1 s.2.1 s.2.2.1 s.2.2.2 hI (fun b1 b2 b3 b4 h9 hm => hk (b1, b2, b3, b4) h9 hm)) (a1, a2, a3, a4) h
theorem lp5 {A1 A2 A3 A4 A5 : Type} (W : Nat → A1 → A2 → A3 → A4 → A5 → Prop) (I : A1 → A2 → A3 → A4 → A5 → Prop) (μ : A1 → A2 → A3 → A4 → A5 → Nat) (hs : ∀ (n : Nat) (a1 : A1) (a2 : A2) (a3 : A3) (a4 : A4) (a5 : A5), I a1 a2 a3 a4 a5 → (∀ (b1 : A1) (b2 : A2) (b3 : A3) (b4 : A4) (b5 : A5), I b1 b2 b3 b4 b5 → μ b1 b2 b3 b4 b5 < μ a1 a2 a3 a4 a5 → W n b1 b2 b3 b4 b5) → W (n + 1) a1 a2 a3 a4 a5) (a1 : A1) (a2 : A2) (a3 : A3) (a4 : A4) (a5 : A5) (h : I a1 a2 a3 a4 a5) : ∃ n, W n a1 a2 a3 a4 a5 :=
  loop_m (σ := A1 × A2 × A3 × A4 × A5) (fun n s => W n s.1 s.2.1 s.2.2.1 s.2.2.2.1 s.2.2.2.2) (fun s => I s.1 s.2.1 s.2.2.1 s.2.2.2.1 s.2.2.2.2) (fun s => μ s.1 s.2.1 s.2.2.1 s.2.2.2.1 s.2.2.2.2) (fun n s hI hk => hs n s.1 s.2.1 s.2.2.1 s.2.2.2.1 s.2.2.2.2 hI (fun b1 b2 b3 b4 b5 h9 hm => hk (b1, b2, b3, b4, b5) h9 hm)) (a1, a2, a3, a4, a5) h
theorem lp6 {A1 A2 A3 A4 A5 A6 : Type} (W : Nat → A1 → A2 → A3 → A4 → A5 → A6 → Prop) (I : A1 → A2 → A3 → A4 → A5 → A6 → Prop) (μ : A1 → A2 → A3 → A4 → A5 → A6 → Nat) (hs : ∀ (n : Nat) (a1 : A1) (a2 : A2) (a3 : A3) (a4 : A4) (a5 : A5) (a6 : A6), I a1 a2 a3 a4 a5 a6 → (∀ (b1 : A1) (b2 : A2) (b3 : A3) (b4 : A4) (b5 : A5) (b6 : A6), I b1 b2 b3 b4 b5 b6 → μ b1 b2 b3 b4 b5 b6 < μ a1 a2 a3 a4 a5 a6 → W n b1 b2 b3 b4 b5 b6) → W (n + 1) a1 a2 a3 a4 a5 a6) (a1 : A1) (a2 : A2) (a3 : A3) (a4 : A4) (a5 : A5) (a6 : A6) (h : I a1 a2 a3 a4 a5 a6) : ∃ n, W n a1 a2 a3 a4 a5 a6 :=
  loop_m (σ := A1 × A2 × A3 × A4 × A5 × A6) (fun n s => W n s.1 s.2.1 s.2.2.1 s.2.2.2.1 s.2.2.2.2.1 s.2.2.2.2.2) (fun s => I s.1 s.2.1 s.2.2.1 s.2.2.2.1 s.2.2.2.2.1 s.2.2.2.2.2) (fun s => μ s.1 s.2.1 s.2.2.1 s.2.2.2.1 s.2.2.2.2.1 s.2.2.2.2.2) (fun n s hI hk => hs n s.1 s.2.1 s.2.2.1 s.2.2.2.1 s.2.2.2.2.1 s.2.2.2.2.2 hI (fun b1 b2 b3 b4 b5 b6 h9 hm => hk (b1, b2, b3, b4, b5, b6) h9 hm)) (a1, a2, a3, a4, a5, a6) h
theorem lp7 {A1 A2 A3 A4 A5 A6 A7 : Type} (W : Nat → A1 → A2 → A3 → A4 → A5 → A6 → A7 → Prop) (I : A1 → A2 → A3 → A4 → A5 → A6 → A7 → Prop) (μ : A1 → A2 → A3 → A4 → A5 → A6 → A7 → Nat) (hs : ∀ (n : Nat) (a1 : A1) (a2 : A2) (a3 : A3) (a4 : A4) (a5 : A5) (a6 : A6) (a7 : A7), I a1 a2 a3 a4 a5 a6 a7 → (∀ (b1 : A1) (b2 : A2) (b3 : A3) (b4 : A4) (b5 : A5) (b6 : A6) (b7 : A7), I b1 b2 b3 b4 b5 b6 b7 → μ b1 b2 b3 b4 b5 b6 b7 < μ a1 a2 a3 a4 a5 a6 a7 → W n b1 b2 b3 b4 b5 b6 b7) → W (n + 1) a1 a2 a3 a4 a5 a6 a7) (a1 : A1) (a2 : A2) (a3 : A3) (a4 : A4) (a5 : A5) (a6 : A6) (a7 : A7) (h : I a1 a2 a3 a4 a5 a6 a7) : ∃ n, W n a1 a2 a3 a4 a5 a6 a7 :=
  loop_m (σ := A1 × A2 × A3 × A4 × A5 × A6 × A7) (fun n s => W n s.1 s.2.1 s.2.2.1 s.2.2.2.1 s.2.2.2.2.1 s.2.2.2.2.2.1 s.2.2.2.2.2.2) (fun s => I s.1 s.2.1 s.2.2.1 s.2.2.2.1 s.2.2.2.2.1 s.2.2.2.2.2.1 s.2.2.2.2.2.2) (fun s => μ s.1 s.2.1 s.2.2.1 s.2.2.2.1 s.2.2.2.2.1 s.2.2.2.2.2.1 s.2.2.2.2.2.2) (fun n s hI hk => hs n s.1 s.2.1 s.2.2.1 s.2.2.2.1 s.2.2.2.2.1 s.2.2.2.2.2.1 s.2.2.2.2.2.2 hI (fun b1 b2 b3 b4 b5 b6 b7 h9 hm => hk (b1, b2, b3, b4, b5, b6, b7) h9 hm)) (a1, a2, a3, a4, a5, a6, a7) h
theorem lp8 {A1 A2 A3 A4 A5 A6 A7 A8 : Type} (W : Nat → A1 → A2 → A3 → A4 → A5 → A6 → A7 → A8 → Prop) (I : A1 → A2 → A3 → A4 → A5 → A6 → A7 → A8 → Prop) (μ : A1 → A2 → A3 → A4 → A5 → A6 → A7 → A8 → Nat) (hs : ∀ (n : Nat) (a1 : A1) (a2 : A2) (a3 : A3) (a4 : A4) (a5 : A5) (a6 : A6) (a7 : A7) (a8 : A8), I a1 a2 a3 a4 a5 a6 a7 a8 → (∀ (b1 : A1) (b2 : A2) (b3 : A3) (b4 : A4) (b5 : A5) (b6 : A6) (b7 : A7) (b8 : A8), I b1 b2 b3 b4 b5 b6 b7 b8 → μ b1 b2 b3 b4 b5 b6 b7 b8 < μ a1 a2 a3 a4 a5 a6 a7 a8 → W n b1 b2 b3 b4 b5 b6 b7 b8) → W (n + 1) a1 a2 a3 a4 a5 a6 a7 a8) (a1 : A1) (a2 : A2) (a3 : A3) (a4 : A4) (a5 : A5) (a6 : A6) (a7 : A7) (a8 : A8) (h : I a1 a2 a3 a4 a5 a6 a7 a8) : ∃ n, W n a1 a2 a3 a4 a5 a6 a7 a8 :=
  loop_m (σ := A1 × A2 × A3 × A4 × A5 × A6 × A7 × A8) (fun n s => W n s.1 s.2.1 s.2.2.1 s.2.2.2.1 s.2.2.2.2.1 s.2.2.2.2.2.1 s.2.2.2.2.2.2.1 s.2.2.2.2.2.2.2) (fun s => I s.1 s.2.1 s.2.2.1 s.2.2.2.1 s.2.2.2.2.1 s.2.2.2.2.2.1 s.2.2.2.2.2.2.1 s.2.2.2.2.2.2.2) (fun s => μ s.1 s.2.1 s.2.2.1 s.2.2.2.1 s.2.2.2.2.1 s.2.2.2.2.2.1 s.2.2.2.2.2.2.1 s.2.2.2.2.2.2.2) (fun n s hI hk => hs n s.1 s.2.1 s.2.2.1 s.2.2.2.1 s.2.2.2.2.1 s.2.2.2.2.2.1 s.2.2.2.2.2.2.1 s.2.2.2.2.2.2.2 hI (fun b1 b2 b3 b4 b5 b6 b7 b8 h9 hm => hk (b1, b2, b3, b4, b5, b6, b7, b8) h9 hm)) (a1, a2, a3, a4, a5, a6, a7, a8) h
theorem lp9 {A1 A2 A3 A4 A5 A6 A7 A8 A9 : Type} (W : Nat → A1 → A2 → A3 → A4 → A5 → A6 → A7 → A8 → A9 → Prop) (I : A1 → A2 → A3 → A4 → A5 → A6 → A7 → A8 → A9 → Prop) (μ : A1 → A2 → A3 → A4 → A5 → A6 → A7 → A8 → A9 → Nat) (hs : ∀ (n : Nat) (a1 : A1) (a2 : A2) (a3 : A3) (a4 : A4) (a5 : A5) (a6 : A6) (a7 : A7) (a8 : A8) (a9 : A9), I a1 a2 a3 a4 a5 a6 a7 a8 a9 → (∀ (b1 : A1) (b2 : A2) (b3 : A3) (b4 : A4) (b5 : A5) (b6 : A6) (b7 : A7) (b8 : A8) (b9 : A9), I b1 b2 b3 b4 b5 b6 b7 b8 b9 → μ b1 b2 b3 b4 b5 b6 b7 b8 b9 < μ a1 a2 a3 a4 a5 a6 a7 a8 a9 → W n b1 b2 b3 b4 b5 b6 b7 b8 b9) → W (n + 1) a1 a2 a3 a4 a5 a6 a7 a8 a9) (a1 : A1) (a2 : A2) (a3 : A3) (a4 : A4) (a5 : A5) (a6 : A6) (a7 : A7) (a8 : A8) (a9 : A9) (h : I a1 a2 a3 a4 a5 a6 a7 a8 a9) : ∃ n, W n a1 a2 a3 a4 a5 a6 a7 a8 a9 :=
  loop_m (σ := A1 × A2 × A3 × A4 × A5 × A6 × A7 × A8 × A9) (fun n s => W n s.1 s.2.1 s.2.2.1 s.2.2.2.1 s.2.2.2.2.1 s.2.2.2.2.2.1 s.2.2.2.2.2.2.1 s.2.2.2.2.2.2.2.1 s.2.2.2.2.2.2.2.2) (fun s => I s.1 s.2.1 s.2.2.1 s.2.2.2.1 s.2.2.2.2.1 s.2.2.2.2.2.1 s.2.2.2.2.2.2.1 s.2.2.2.2.2.2.2.1 s.2.2.2.2.2.2.2.2) (fun s => μ s.1 s.2.1 s.2.2.1 s.2.2.2.1 s.2.2.2.2.1 s.2.2.2.2.2.1 s.2.2.2.2.2.2.1 s.2.2.2.2.2.2.2.1 s.2.2.2.2.2.2.2.2) (fun n s hI hk => hs n s.1 s.2.1 s.2.2.1 s.2.2.2.1 s.2.2.2.2.1 s.2.2.2.2.2.1 s.2.2.2.2.2.2.1 s.2.2.2.2.2.2.2.1 s.2.2.2.2.2.2.2.2 hI (fun b1 b2 b3 b4 b5 b6 b7 b8 b9 h9 hm => hk (b1, b2, b3, b4, b5, b6, b7, b8, b9) h9 hm)) (a1, a2, a3, a4, a5, a6, a7, a8, a9) h
theorem lp10 {A1 A2 A3 A4 A5 A6 A7 A8 A9 A10 : Type} (W : Nat → A1 → A2 → A3 → A4 → A5 → A6 → A7 → A8 → A9 → A10 → Prop) (I : A1 → A2 → A3 → A4 → A5 → A6 → A7 → A8 → A9 → A10 → Prop) (μ : A1 → A2 → A3 → A4 → A5 → A6 → A7 → A8 → A9 → A10 → Nat) (hs : ∀ (n : Nat) (a1 : A1) (a2 : A2) (a3 : A3) (a4 : A4) (a5 : A5) (a6 : A6) (a7 : A7) (a8 : A8) (a9 : A9) (a10 : A10), I a1 a2 a3 a4 a5 a6 a7 a8 a9 a10 → (∀ (b1 : A1) (b2 : A2) (b3 : A3) (b4 : A4) (b5 : A5) (b6 : A6) (b7 : A7) (b8 : A8) (b9 : A9) (b10 : A10), I b1 b2 b3 b4 b5 b6 b7 b8 b9 b10 → μ b1 b2 b3 b4 b5 b6 b7 b8 b9 b10 < μ a1 a2 a3 a4 a5 a6 a7 a8 a9 a10 → W n b1 b2 b3 b4 b5 b6 b7 b8 b9 b10) → W (n + 1) a1 a2 a3 a4 a5 a6 a7 a8 a9 a10) (a1 : A1) (a2 : A2) (a3 : A3) (a4 : A4) (a5 : A5) (a6 : A6) (a7 : A7) (a8 : A8) (a9 : A9) (a10 : A10) (h : I a1 a2 a3 a4 a5 a6 a7 a8 a9 a10) : ∃ n, W n a1 a2 a3 a4 a5 a6 a7 a8 a9 a10 :=
  loop_m (σ := A1 × A2 × A3 × A4 × A5 × A6 × A7 × A8 × A9 × A10) (fun n s => W n s.1 s.2.1 s.2.2.1 s.2.2.2.1 s.2.2.2.2.1 s.2.2.2.2.2.1 s.2.2.2.2.2.2.1 s.2.2.2.2.2.2.2.1 s.2.2.2.2.2.2.2.2.1 s.2.2.2.2.2.2.2.2.2) (fun s => I s.1 s.2.1 s.2.2.1 s.2.2.2.1 s.2.2.2.2.1 s.2.2.2.2.2.1 s.2.2.2.2.2.2.1 s.2.2.2.2.2.2.2.1 s.2.2.2.2.2.2.2.2.1 s.2.2.2.2.2.2.2.2.2) (fun s => μ s.1 s.2.1 s.2.2.1 s.2.2.2.1 s.2.2.2.2.1 s.2.2.2.2.2.1 s.2.2.2.2.2.2.1 s.2.2.2.2.2.2.2.1 s.2.2.2.2.2.2.2.2.1 s.2.2.2.2.2.2.2.2.2) (fun n s hI hk => hs n s.1 s.2.1 s.2.2.1 s.2.2.2.1 s.2.2.2.2.1 s.2.2.2.2.2.1 s.2.2.2.2.2.2.1 s.2.2.2.2.2.2.2.1 s.2.2.2.2.2.2.2.2.1 s.2.2.2.2.2.2.2.2.2 hI (fun b1 b2 b3 b4 b5 b6 b7 b8 b9 b10 h9 hm => hk (b1, b2, b3, b4, b5, b6, b7, b8, b9, b10) h9 hm)) (a1, a2, a3, a4, a5, a6, a7, a8, a9, a10) h
theorem lp11 {A1 A2 A3 A4 A5 A6 A7 A8 A9 A10 A11 : Type} (W : Nat → A1 → A2 → A3 → A4 → A5 → A6 → A7 → A8 → A9 → A10 → A11 → Prop) (I : A1 → A2 → A3 → A4 → A5 → A6 → A7 → A8 → A9 → A10 → A11 → Prop) (μ : A1 → A2 → A3 → A4 → A5 → A6 → A7 → A8 → A9 → A10 → A11 → Nat) (hs : ∀ (n : Nat) (a1 : A1) (a2 : A2) (a3 : A3) (a4 : A4) (a5 : A5) (a6 : A6) (a7 : A7) (a8 : A8) (a9 : A9) (a10 : A10) (a11 : A11), I a1 a2 a3 a4 a5 a6 a7 a8 a9 a10 a11 → (∀ (b1 : A1) (b2 : A2) (b3 : A3) (b4 : A4) (b5 : A5) (b6 : A6) (b7 : A7) (b8 : A8) (b9 : A9) (b10 : A10) (b11 : A11), I b1 b2 b3 b4 b5 b6 b7 b8 b9 b10 b11 → μ b1 b2 b3 b4 b5 b6 b7 b8 b9 b10 b11 < μ a1 a2 a3 a4 a5 a6 a7 a8 a9 a10 a11 → W n b1 b2 b3 b4 b5 b6 b7 b8 b9 b10 b11) → W (n + 1) a1 a2 a3 a4 a5 a6 a7 a8 a9 a10 a11) (a1 : A1) (a2 : A2) (a3 : A3) (a4 : A4) (a5 : A5) (a6 : A6) (a7 : A7) (a8 : A8) (a9 : A9) (a10 : A10) (a11 : A11) (h : I a1 a2 a3 a4 a5 a6 a7 a8 a9 a10 a11) : ∃ n, W n a1 a2 a3 a4 a5 a6 a7 a8 a9 a10 a11 :=
  loop_m (σ := A1 × A2 × A3 × A4 × A5 × A6 × A7 × A8 × A9 × A10 × A11) (fun n s => W n s.1 s.2.1 s.2.2.1 s.2.2.2.1 s.2.2.2.2.1 s.2.2.2.2.2.1 s.2.2.2.2.2.2.1 s.2.2.2.2.2.2.2.1 s.2.2.2.2.2.2.2.2.1 s.2.2.2.2.2.2.2.2.2.1 s.2.2.2.2.2.2.2.2.2.2) (fun s => I s.1 s.2.1 s.2.2.1 s.2.2.2.1 s.2.2.2.2.1 s.2.2.2.2.2.1 s.2.2.2.2.2.2.1 s.2.2.2.2.2.2.2.1 s.2.2.2.2.2.2.2.2.1 s.2.2.2.2.2.2.2.2.2.1 s.2.2.2.2.2.2.2.2.2.2) (fun s => μ s.1 s.2.1 s.2.2.1 s.2.2.2.1 s.2.2.2.2.1 s.2.2.2.2.2.1 s.2.2.2.2.2.2.1 s.2.2.2.2.2.2.2.1 s.2.2.2.2.2.2.2.2.1 s.2.2.2.2.2.2.2.2.2.1 s.2.2.2.2.2.2.2.2.2.2) (fun n s hI hk => hs n s.1 s.2.1 s.2.2.1 s.2.2.2.1 s.2.2.2.2.1 s.2.2.2.2.2.1 s.2.2.2.2.2.2.1 s.2.2.2.2.2.2.2.1 s.2.2.2.2.2.2.2.2.1 s.2.2.2.2.2.2.2.2.2.1 s.2.2.2.2.2.2.2.2.2.2 hI (fun b1 b2 b3 b4 b5 b6 b7 b8 b9 b10 b11 h9 hm => hk (b1, b2, b3, b4, b5, b6, b7, b8, b9, b10, b11) h9 hm)) (a1, a2, a3, a4, a5, a6, a7, a8, a9, a10, a11) h
theorem lp12 {A1 A2 A3 A4 A5 A6 A7 A8 A9 A10 A11 A12 : Type} (W : Nat → A1 → A2 → A3 → A4 → A5 → A6 → A7 → A8 → A9 → A10 → A11 → A12 → Prop) (I : A1 → A2 → A3 → A4 → A5 → A6 → A7 → A8 → A9 → A10 → A11 → A12 → Prop) (μ : A1 → A2 → A3 → A4 → A5 → A6 → A7 → A8 → A9 → A10 → A11 → A12 → Nat) (hs : ∀ (n : Nat) (a1 : A1) (a2 : A2) (a3 : A3) (a4 : A4) (a5 : A5) (a6 : A6) (a7 : A7) (a8 : A8) (a9 : A9) (a10 : A10) (a11 : A11) (a12 : A12), I a1 a2 a3 a4 a5 a6 a7 a8 a9 a10 a11 a12 → (∀ (b1 : A1) (b2 : A2) (b3 : A3) (b4 : A4) (b5 : A5) (b6 : A6) (b7 : A7) (b8 : A8) (b9 : A9) (b10 : A10) (b11 : A11) (b12 : A12), I b1 b2 b3 b4 b5 b6 b7 b8 b9 b10 b11 b12 → μ b1 b2 b3 b4 b5 b6 b7 b8 b9 b10 b11 b12 < μ a1 a2 a3 a4 a5 a6 a7 a8 a9 a10 a11 a12 → W n b1 b2 b3 b4 b5 b6 b7 b8 b9 b10 b11 b12) → W (n + 1) a1 a2 a3 a4 a5 a6 a7 a8 a9 a10 a11 a12) (a1 : A1) (a2 : A2) (a3 : A3) (a4 : A4) (a5 : A5) (a6 : A6) (a7 : A7) (a8 : A8) (a9 : A9) (a10 : A10) (a11 : A11) (a12 : A12) (h : I a1 a2 a3 a4 a5 a6 a7 a8 a9 a10 a11 a12) : ∃ n, W n a1 a2 a3 a4 a5 a6 a7 a8 a9 a10 a11 a12 :=
  loop_m (σ := A1 × A2 × A3 × A4 × A5 × A6 × A7 × A8 × A9 × A10 × A11 × A12) (fun n s => W n s.1 s.2.1 s.2.2.1 s.2.2.2.1 s.2.2.2.2.1 s.2.2.2.2.2.1 s.2.2.2.2.2.2.1 s.2.2.2.2.2.2.2.1 s.2.2.2.2.2.2.2.2.1 s.2.2.2.2.2.2.2.2.2.1 s.2.2.2.2.2.2.2.2.2.2.1 s.2.2.2.2.2.2.2.2.2.2.2) (fun s => I s.1 s.2.1 s.2.2.1 s.2.2.2.1 s.2.2.2.2.1 s.2.2.2.2.2.1 s.2.2.2.2.2.2.1 s.2.2.2.2.2.2.2.1 s.2.2.2.2.2.2.2.2.1 s.2.2.2.2.2.2.2.2.2.1 s.2.2.2.2.2.2.2.2.2.2.1 s.2.2.2.2.2.2.2.2.2.2.2) (fun s => μ s.1 s.2.1 s.2.2.1 s.2.2.2.1 s.2.2.2.2.1 s.2.2.2.2.2.1 s.2.2.2.2.2.2.1 s.2.2.2.2.2.2.2.1 s.2.2.2.2.2.2.2.2.1 s.2.2.2.2.2.2.2.2.2.1 s.2.2.2.2.2.2.2.2.2.2.1 s.2.2.2.2.2.2.2.2.2.2.2) (fun n s hI hk => hs n s.1 s.2.1 s.2.2.1 s.2.2.2.1 s.2.2.2.2.1 s.2.2.2.2.2.1 s.2.2.2.2.2.2.1 s.2.2.2.2.2.2.2.1 s.2.2.2.2.2.2.2.2.1 s.2.2.2.2.2.2.2.2.2.1 s.2.2.2.2.2.2.2.2.2.2.1 s.2.2.2.2.2.2.2.2.2.2.2 hI (fun b1 b2 b3 b4 b5 b6 b7 b8 b9 b10 b11 b12 h9 hm => hk (b1, b2, b3, b4, b5, b6, b7, b8, b9, b10, b11, b12) h9 hm)) (a1, a2, a3, a4, a5, a6, a7, a8, a9, a10, a11, a12) h
theorem lp13 {A1 A2 A3 A4 A5 A6 A7 A8 A9 A10 A11 A12 A13 : Type} (W : Nat → A1 → A2 → A3 → A4 → A5 → A6 → A7 → A8 → A9 → A10 → A11 → A12 → A13 → Prop) (I : A1 → A2 → A3 → A4 → A5 → A6 → A7 → A8 → A9 → A10 → A11 → A12 → A13 → Prop) (μ : A1 → A2 → A3 → A4 → A5 → A6 → A7 → A8 → A9 → A10 → A11 → A12 → A13 → Nat) (hs : ∀ (n : Nat) (a1 : A1) (a2 : A2) (a3 : A3) (a4 : A4) (a5 : A5) (a6 : A6) (a7 : A7) (a8 : A8) (a9 : A9) (a10 : A10) (a11 : A11) (a12 : A12) (a13 : A13), I a1 a2 a3 a4 a5 a6 a7 a8 a9 a10 a11 a12 a13 → (∀ (b1 : A1) (b2 : A2) (b3 : A3) (b4 : A4) (b5 : A5) (b6 : A6) (b7 : A7) (b8 : A8) (b9 : A9) (b10 : A10) (b11 : A11) (b12 : A12) (b13 : A13), I b1 b2 b3 b4 b5 b6 b7 b8 b9 b10 b11 b12 b13 → μ b1 b2 b3 b4 b5 b6 b7 b8 b9 b10 b11 b12 b13 < μ a1 a2 a3 a4 a5 a6 a7 a8 a9 a10 a11 a12 a13 → W n b1 b2 b3 b4 b5 b6 b7 b8 b9 b10 b11 b12 b13) → W (n + 1) a1 a2 a3 a4 a5 a6 a7 a8 a9 a10 a11 a12 a13) (a1 : A1) (a2 : A2) (a3 : A3) (a4 : A4) (a5 : A5) (a6 : A6) (a7 : A7) (a8 : A8) (a9 : A9) (a10 : A10) (a11 : A11) (a12 : A12) (a13 : A13) (h : I a1 a2 a3 a4 a5 a6 a7 a8 a9 a10 a11 a12 a13) : ∃ n, W n a1 a2 a3 a4 a5 a6 a7 a8 a9 a10 a11 a12 a13 :=
  loop_m (σ := A1 × A2 × A3 × A4 × A5 × A6 × A7 × A8 × A9 × A10 × A11 × A12 × A13) (fun n s => W n s.1 s.2.1 s.2.2.1 s.2.2.2.1 s.2.2.2.2.1 s.2.2.2.2.2.1 s.2.2.2.2.2.2.1 s.2.2.2.2.2.2.2.1 s.2.2.2.2.2.2.2.2.1 s.2.2.2.2.2.2.2.2.2.1 s.2.2.2.2.2.2.2.2.2.2.1 s.2.2.2.2.2.2.2.2.2.2.2.1 s.2.2.2.2.2.2.2.2.2.2.2.2) (fun s => I s.1 s.2.1 s.2.2.1 s.2.2.2.1 s.2.2.2.2.1 s.2.2.2.2.2.1 s.2.2.2.2.2.2.1 s.2.2.2.2.2.2.2.1 s.2.2.2.2.2.2.2.2.1 s.2.2.2.2.2.2.2.2.2.1 s.2.2.2.2.2.2.2.2.2.2.1 s.2.2.2.2.2.2.2.2.2.2.2.1 s.2.2.2.2.2.2.2.2.2.2.2.2) (fun s => μ s.1 s.2.1 s.2.2.1 s.2.2.2.1 s.2.2.2.2.1 s.2.2.2.2.2.1 s.2.2.2.2.2.2.1 s.2.2.2.2.2.2.2.1 s.2.2.2.2.2.2.2.2.1 s.2.2.2.2.2.2.2.2.2.1 s.2.2.2.2.2.2.2.2.2.2.1 s.2.2.2.2.2.2.2.2.2.2.2.1 s.2.2.2.2.2.2.2.2.2.2.2.2) (fun n s hI hk => hs n s.1 s.2.1 s.2.2.1 s.2.2.2.1 s.2.2.2.2.1 s.2.2.2.2.2.1 s.2.2.2.2.2.2.1 s.2.2.2.2.2.2.2.1 s.2.2.2.2.2.2.2.2.1 s.2.2.2.2.2.2.2.2.2.1 s.2.2.2.2.2.2.2.2.2.2.1 s.2.2.2.2.2.2.2.2.2.2.2.1 s.2.2.2.2.2.2.2.2.2.2.2.2 hI (fun b1 b2 b3 b4 b5 b6 b7 b8 b9 b10 b11 b12 b13 h9 hm => hk (b1, b2, b3, b4, b5, b6, b7, b8, b9, b10, b11, b12, b13) h9 hm)) (a1, a2, a3, a4, a5, a6, a7, a8, a9, a10, a11, a12, a13) h
theorem lp14 {A1 A2 A3 A4 A5 A6 A7 A8 A9 A10 A11 A12 A13 A14 : Type} (W : Nat → A1 → A2 → A3 → A4 → A5 → A6 → A7 → A8 → A9 → A10 → A11 → A12 → A13 → A14 → Prop) (I : A1 → A2 → A3 → A4 → A5 → A6 → A7 → A8 → A9 → A10 → A11 → A12 → A13 → A14 → Prop) (μ : A1 → A2 → A3 → A4 → A5 → A6 → A7 → A8 → A9 → A10 → A11 → A12 → A13 → A14 → Nat) (hs : ∀ (n : Nat) (a1 : A1) (a2 : A2) (a3 : A3) (a4 : A4) (a5 : A5) (a6 : A6) (a7 : A7) (a8 : A8) (a9 : A9) (a10 : A10) (a11 : A11) (a12 : A12) (a13 : A13) (a14 : A14), I a1 a2 a3 a4 a5 a6 a7 a8 a9 a10 a11 a12 a13 a14 → (∀ (b1 : A1) (b2 : A2) (b3 : A3) (b4 : A4) (b5 : A5) (b6 : A6) (b7 : A7) (b8 : A8) (b9 : A9) (b10 : A10) (b11 : A11) (b12 : A12) (b13 : A13) (b14 : A14), I b1 b2 b3 b4 b5 b6 b7 b8 b9 b10 b11 b12 b13 b14 → μ b1 b2 b3 b4 b5 b6 b7 b8 b9 b10 b11 b12 b13 b14 < μ a1 a2 a3 a4 a5 a6 a7 a8 a9 a10 a11 a12 a13 a14 → W n b1 b2 b3 b4 b5 b6 b7 b8 b9 b10 b11 b12 b13 b14) → W (n + 1) a1 a2 a3 a4 a5 a6 a7 a8 a9 a10 a11 a12 a13 a14) (a1 : A1) (a2 : A2) (a3 : A3) (a4 : A4) (a5 : A5) (a6 : A6) (a7 : A7) (a8 : A8) (a9 : A9) (a10 : A10) (a11 : A11) (a12 : A12) (a13 : A13) (a14 : A14) (h : I a1 a2 a3 a4 a5 a6 a7 a8 a9 a10 a11 a12 a13 a14) : ∃ n, W n a1 a2 a3 a4 a5 a6 a7 a8 a9 a10 a11 a12 a13 a14 :=
  loop_m (σ := A1 × A2 × A3 × A4 × A5 × A6 × A7 × A8 × A9 × A10 × A11 × A12 × A13 × A14) (fun n s => W n s.1 s.2.1 s.2.2.1 s.2.2.2.1 s.2.2.2.2.1 s.2.2.2.2.2.1 s.2.2.2.2.2.2.1 s.2.2.2.2.2.2.2.1 s.2.2.2.2.2.2.2.2.1 s.2.2.2.2.2.2.2.2.2.1 s.2.2.2.2.2.2.2.2.2.2.1 s.2.2.2.2.2.2.2.2.2.2.2.1 s.2.2.2.2.2.2.2.2.2.2.2.2.1 s.2.2.2.2.2.2.2.2.2.2.2.2.2) (fun s => I s.1 s.2.1 s.2.2.1 s.2.2.2.1 s.2.2.2.2.1 s.2.2.2.2.2.1 s.2.2.2.2.2.2.1 s.2.2.2.2.2.2.2.1 s.2.2.2.2.2.2.2.2.1 s.2.2.2.2.2.2.2.2.2.1 s.2.2.2.2.2.2.2.2.2.2.1 s.2.2.2.2.2.2.2.2.2.2.2.1 s.2.2.2.2.2.2.2.2.2.2.2.2.1 s.2.2.2.2.2.2.2.2.2.2.2.2.2) (fun s => μ s.1 s.2.1 s.2.2.1 s.2.2.2.1 s.2.2.2.2.1 s.2.2.2.2.2.1 s.2.2.2.2.2.2.1 s.2.2.2.2.2.2.2.1 s.2.2.2.2.2.2.2.2.1 s.2.2.2.2.2.2.2.2.2.1 s.2.2.2.2.2.2.2.2.2.2.1 s.2.2.2.2.2.2.2.2.2.2.2.1 s.2.2.2.2.2.2.2.2.2.2.2.2.1 s.2.2.2.2.2.2.2.2.2.2.2.2.2) (fun n s hI hk => hs n s.1 s.2.1 s.2.2.1 s.2.2.2.1 s.2.2.2.2.1 s.2.2.2.2.2.1 s.2.2.2.2.2.2.1 s.2.2.2.2.2.2.2.1 s.2.2.2.2.2.2.2.2.1 s.2.2.2.2.2.2.2.2.2.1 s.2.2.2.2.2.2.2.2.2.2.1 s.2.2.2.2.2.2.2.2.2.2.2.1 s.2.2.2.2.2.2.2.2.2.2.2.2.1 s.2.2.2.2.2.2.2.2.2.2.2.2.2 hI (fun b1 b2 b3 b4 b5 b6 b7 b8 b9 b10 b11 b12 b13 b14 h9 hm => hk (b1, b2, b3, b4, b5, b6, b7, b8, b9, b10, b11, b12, b13, b14) h9 hm)) (a1, a2, a3, a4, a5, a6, a7, a8, a9, a10, a11, a12, a13, a14) h
theorem lp15 {A1 A2 A3 A4 A5 A6 A7 A8 A9 A10 A11 A12 A13 A14 A15 : Type} (W : Nat → A1 → A2 → A3 → A4 → A5 → A6 → A7 → A8 → A9 → A10 → A11 → A12 → A13 → A14 → A15 → Prop) (I : A1 → A2 → A3 → A4 → A5 → A6 → A7 → A8 → A9 → A10 → A11 → A12 → A13 → A14 → A15 → Prop) (μ : A1 → A2 → A3 → A4 → A5 → A6 → A7 → A8 → A9 → A10 → A11 → A12 → A13 → A14 → A15 → Nat) (hs : ∀ (n : Nat) (a1 : A1) (a2 : A2) (a3 : A3) (a4 : A4) (a5 : A5) (a6 : A6) (a7 : A7) (a8 : A8) (a9 : A9) (a10 : A10) (a11 : A11) (a12 : A12) (a13 : A13) (a14 : A14) (a15 : A15), I a1 a2 a3 a4 a5 a6 a7 a8 a9 a10 a11 a12 a13 a14 a15 → (∀ (b1 : A1) (b2 : A2) (b3 : A3) (b4 : A4) (b5 : A5) (b6 : A6) (b7 : A7) (b8 : A8) (b9 : A9) (b10 : A10) (b11 : A11) (b12 : A12) (b13 : A13) (b14 : A14) (b15 : A15), I b1 b2 b3 b4 b5 b6 b7 b8 b9 b10 b11 b12 b13 b14 b15 → μ b1 b2 b3 b4 b5 b6 b7 b8 b9 b10 b11 b12 b13 b14 b15 < μ a1 a2 a3 a4 a5 a6 a7 a8 a9 a10 a11 a12 a13 a14 a15 → W n b1 b2 b3 b4 b5 b6 b7 b8 b9 b10 b11 b12 b13 b14 b15) → W (n + 1) a1 a2 a3 a4 a5 a6 a7 a8 a9 a10 a11 a12 a13 a14 a15) (a1 : A1) (a2 : A2) (a3 : A3) (a4 : A4) (a5 : A5) (a6 : A6) (a7 : A7) (a8 : A8) (a9 : A9) (a10 : A10) (a11 : A11) (a12 : A12) (a13 : A13) (a14 : A14) (a15 : A15) (h : I a1 a2 a3 a4 a5 a6 a7 a8 a9 a10 a11 a12 a13 a14 a15) : ∃ n, W n a1 a2 a3 a4 a5 a6 a7 a8 a9 a10 a11 a12 a13 a14 a15 :=
  loop_m (σ := A1 × A2 × A3 × A4 × A5 × A6 × A7 × A8 × A9 × A10 × A11 × A12 × A13 × A14 × A15) (fun n s => W n s.1 s.2.1 s.2.2.1 s.2.2.2.1 s.2.2.2.2.1 s.2.2.2.2.2.1 s.2.2.2.2.2.2.1 s.2.2.2.2.2.2.2.1 s.2.2.2.2.2.2.2.2.1 s.2.2.2.2.2.2.2.2.2.1 s.2.2.2.2.2.2.2.2.2.2.1 s.2.2.2.2.2.2.2.2.2.2.2.1 s.2.2.2.2.2.2.2.2.2.2.2.2.1 s.2.2.2.2.2.2.2.2.2.2.2.2.2.1 s.2.2.2.2.2.2.2.2.2.2.2.2.2.2) (fun s => I s.1 s.2.1 s.2.2.1 s.2.2.2.1 s.2.2.2.2.1 s.2.2.2.2.2.1 s.2.2.2.2.2.2.1 s.2.2.2.2.2.2.2.1 s.2.2.2.2.2.2.2.2.1 s.2.2.2.2.2.2.2.2.2.1 s.2.2.2.2.2.2.2.2.2.2.1 s.2.2.2.2.2.2.2.2.2.2.2.1 s.2.2.2.2.2.2.2.2.2.2.2.2.1 s.2.2.2.2.2.2.2.2.2.2.2.2.2.1 s.2.2.2.2.2.2.2.2.2.2.2.2.2.2) (fun s => μ s.1 s.2.1 s.2.2.1 s.2.2.2.1 s.2.2.2.2.1 s.2.2.2.2.2.1 s.2.2.2.2.2.2.1 s.2.2.2.2.2.2.2.1 s.2.2.2.2.2.2.2.2.1 s.2.2.2.2.2.2.2.2.2.1 s.2.2.2.2.2.2.2.2.2.2.1 s.2.2.2.2.2.2.2.2.2.2.2.1 s.2.2.2.2.2.2.2.2.2.2.2.2.1 s.2.2.2.2.2.2.2.2.2.2.2.2.2.1 s.2.2.2.2.2.2.2.2.2.2.2.2.2.2) (fun n s hI hk => hs n s.1 s.2.1 s.2.2.1 s.2.2.2.1 s.2.2.2.2.1 s.2.2.2.2.2.1 s.2.2.2.2.2.2.1 s.2.2.2.2.2.2.2.1 s.2.2.2.2.2.2.2.2.1 s.2.2.2.2.2.2.2.2.2.1 s.2.2.2.2.2.2.2.2.2.2.1 s.2.2.2.2.2.2.2.2.2.2.2.1 s.2.2.2.2.2.2.2.2.2.2.2.2.1 s.2.2.2.2.2.2.2.2.2.2.2.2.2.1 s.2.2.2.2.2.2.2.2.2.2.2.2.2.2 hI (fun b1 b2 b3 b4 b5 b6 b7 b8 b9 b10 b11 b12 b13 b14 b15 h9 hm => hk (b1, b2, b3, b4, b5, b6, b7, b8, b9, b10, b11, b12, b13, b14, b15) h9 hm)) (a1, a2, a3, a4, a5, a6, a7, a8, a9, a10, a11, a12, a13, a14, a15) h
theorem lp16 {A1 A2 A3 A4 A5 A6 A7 A8 A9 A10 A11 A12 A13 A14 A15 A16 : Type} (W : Nat → A1 → A2 → A3 → A4 → A5 → A6 → A7 → A8 → A9 → A10 → A11 → A12 → A13 → A14 → A15 → A16 → Prop) (I : A1 → A2 → A3 → A4 → A5 → A6 → A7 → A8 → A9 → A10 → A11 → A12 → A13 → A14 → A15 → A16 → Prop) (μ : A1 → A2 → A3 → A4 → A5 → A6 → A7 → A8 → A9 → A10 → A11 → A12 → A13 → A14 → A15 → A16 → Nat) (hs : ∀ (n : Nat) (a1 : A1) (a2 : A2) (a3 : A3) (a4 : A4) (a5 : A5) (a6 : A6) (a7 : A7) (a8 : A8) (a9 : A9) (a10 : A10) (a11 : A11) (a12 : A12) (a13 : A13) (a14 : A14) (a15 : A15) (a16 : A16), I a1 a2 a3 a4 a5 a6 a7 a8 a9 a10 a11 a12 a13 a14 a15 a16 → (∀ (b1 : A1) (b2 : A2) (b3 : A3) (b4 : A4) (b5 : A5) (b6 : A6) (b7 : A7) (b8 : A8) (b9 : A9) (b10 : A10) (b11 : A11) (b12 : A12) (b13 : A13) (b14 : A14) (b15 : A15) (b16 : A16), I b1 b2 b3 b4 b5 b6 b7 b8 b9 b10 b11 b12 b13 b14 b15 b16 → μ b1 b2 b3 b4 b5 b6 b7 b8 b9 b10 b11 b12 b13 b14 b15 b16 < μ a1 a2 a3 a4 a5 a6 a7 a8 a9 a10 a11 a12 a13 a14 a15 a16 → W n b1 b2 b3 b4 b5 b6 b7 b8 b9 b10 b11 b12 b13 b14 b15 b16) → W (n + 1) a1 a2 a3 a4 a5 a6 a7 a8 a9 a10 a11 a12 a13 a14 a15 a16) (a1 : A1) (a2 : A2) (a3 : A3) (a4 : A4) (a5 : A5) (a6 : A6) (a7 : A7) (a8 : A8) (a9 : A9) (a10 : A10) (a11 : A11) (a12 : A12) (a13 : A13) (a14 : A14) (a15 : A15) (a16 : A16) (h : I a1 a2 a3 a4 a5 a6 a7 a8 a9 a10 a11 a12 a13 a14 a15 a16) : ∃ n, W n a1 a2 a3 a4 a5 a6 a7 a8 a9 a10 a11 a12 a13 a14 a15 a16 :=
  loop_m (σ := A1 × A2 × A3 × A4 × A5 × A6 × A7 × A8 × A9 × A10 × A11 × A12 × A13 × A14 × A15 × A16) (fun n s => W n s.1 s.2.1 s.2.2.1 s.2.2.2.1 s.2.2.2.2.1 s.2.2.2.2.2.1 s.2.2.2.2.2.2.1 s.2.2.2.2.2.2.2.1 s.2.2.2.2.2.2.2.2.1 s.2.2.2.2.2.2.2.2.2.1 s.2.2.2.2.2.2.2.2.2.2.1 s.2.2.2.2.2.2.2.2.2.2.2.1 s.2.2.2.2.2.2.2.2.2.2.2.2.1 s.2.2.2.2.2.2.2.2.2.2.2.2.2.1 s.2.2.2.2.2.2.2.2.2.2.2.2.2.2.1 s.2.2.2.2.2.2.2.2.2.2.2.2.2.2.2) (fun s => I s.1 s.2.1 s.2.2.1 s.2.2.2.1 s.2.2.2.2.1 s.2.2.2.2.2.1 s.2.2.2.2.2.2.1 s.2.2.2.2.2.2.2.1 s.2.2.2.2.2.2.2.2.1 s.2.2.2.2.2.2.2.2.2.1 s.2.2.2.2.2.2.2.2.2.2.1 s.2.2.2.2.2.2.2.2.2.2.2.1 s.2.2.2.2.2.2.2.2.2.2.2.2.1 s.2.2.2.2.2.2.2.2.2.2.2.2.2.1 s.2.2.2.2.2.2.2.2.2.2.2.2.2.2.1 s.2.2.2.2.2.2.2.2.2.2.2.2.2.2.2) (fun s => μ s.1 s.2.1 s.2.2.1 s.2.2.2.1 s.2.2.2.2.1 s.2.2.2.2.2.1 s.2.2.2.2.2.2.1 s.2.2.2.2.2.2.2.1 s.2.2.2.2.2.2.2.2.1 s.2.2.2.2.2.2.2.2.2.1 s.2.2.2.2.2.2.2.2.2.2.1 s.2.2.2.2.2.2.2.2.2.2.2.1 s.2.2.2.2.2.2.2.2.2.2.2.2.1 s.2.2.2.2.2.2.2.2.2.2.2.2.2.1 s.2.2.2.2.2.2.2.2.2.2.2.2.2.2.1 s.2.2.2.2.2.2.2.2.2.2.2.2.2.2.2) (fun n s hI hk => hs n s.1 s.2.1 s.2.2.1 s.2.2.2.1 s.2.2.2.2.1 s.2.2.2.2.2.1 s.2.2.2.2.2.2.1 s.2.2.2.2.2.2.2.1 s.2.2.2.2.2.2.2.2.1 s.2.2.2.2.2.2.2.2.2.1 s.2.2.2.2.2.2.2.2.2.2.1 s.2.2.2.2.2.2.2.2.2.2.2.1 s.2.2.2.2.2.2.2.2.2.2.2.2.1 s.2.2.2.2.2.2.2.2.2.2.2.2.2.1 s.2.2.2.2.2.2.2.2.2.2.2.2.2.2.1 s.2.2.2.2.2.2.2.2.2.2.2.2.2.2.2 hI (fun b1 b2 b3 b4 b5 b6 b7 b8 b9 b10 b11 b12 b13 b14 b15 b16 h9 hm => hk (b1, b2, b3, b4, b5, b6, b7, b8, b9, b10, b11, b12, b13, b14, b15, b16) h9 hm)) (a1, a2, a3, a4, a5, a6, a7, a8, a9, a10, a11, a12, a13, a14, a15, a16) h
theorem pk_least (P : Nat → Prop) (h : ∃ k, P k) : ∃ k, P k ∧ ∀ j, j < k → ¬ P j := by
  obtain ⟨k, hk⟩ := h
  induction k using Nat.strongRecOn with
  | ind k ih =>
    by_cases e : ∃ j, j < k ∧ P j
    · obtain ⟨j, hj, pj⟩ := e
      exact ih j hj pj
    · exact ⟨k, hk, fun j hj pj => e ⟨j, hj, pj⟩⟩
theorem rp1 {ρ A1 : Type} (W : Nat → (ρ → Prop) → A1 → Prop) (ok : A1 → Prop) (μ : A1 → Nat) (val : A1 → ρ)
    (hs : ∀ (d : Nat) (post : ρ → Prop) (a1 : A1), ok a1 → post (val a1) → (∀ (post' : ρ → Prop) (b1 : A1), ok b1 → μ b1 < μ a1 → post' (val b1) → W d post' b1) → W (d + 1) post a1) :
    ∀ (d : Nat) (post : ρ → Prop) (a1 : A1), ok a1 → μ a1 < d → post (val a1) → W d post a1 := by
  intro d
  induction d with
  | zero => intro post a1 _ h; omega
  | succ d ih =>
    intro post a1 ho hm hp
    exact hs d post a1 ho hp (fun post' b1 ho' hm' hp' => ih post' b1 ho' (by omega) hp')
theorem rp2 {ρ A1 A2 : Type} (W : Nat → (ρ → Prop) → A1 → A2 → Prop) (ok : A1 → A2 → Prop) (μ : A1 → A2 → Nat) (val : A1 → A2 → ρ)
    (hs : ∀ (d : Nat) (post : ρ → Prop) (a1 : A1) (a2 : A2), ok a1 a2 → post (val a1 a2) → (∀ (post' : ρ → Prop) (b1 : A1) (b2 : A2), ok b1 b2 → μ b1 b2 < μ a1 a2 → post' (val b1 b2) → W d post' b1 b2) → W (d + 1) post a1 a2) :
    ∀ (d : Nat) (post : ρ → Prop) (a1 : A1) (a2 : A2), ok a1 a2 → μ a1 a2 < d → post (val a1 a2) → W d post a1 a2 := by
  intro d
  induction d with
  | zero => intro post a1 a2 _ h; omega
  | succ d ih =>
    intro post a1 a2 ho hm hp
    exact hs d post a1 a2 ho hp (fun post' b1 b2 ho' hm' hp' => ih post' b1 b2 ho' (by omega) hp')
theorem rp3 {ρ A1 A2 A3 : Type} (W : Nat → (ρ → Prop) → A1 → A2 → A3 → Prop) (ok : A1 → A2 → A3 → Prop) (μ : A1 → A2 → A3 → Nat) (val : A1 → A2 → A3 → ρ)
    (hs : ∀ (d : Nat) (post : ρ → Prop) (a1 : A1) (a2 : A2) (a3 : A3), ok a1 a2 a3 → post (val a1 a2 a3) → (∀ (post' : ρ → Prop) (b1 : A1) (b2 : A2) (b3 : A3), ok b1 b2 b3 → μ b1 b2 b3 < μ a1 a2 a3 → post' (val b1 b2 b3) → W d post' b1 b2 b3) → W (d + 1) post a1 a2 a3) :
    ∀ (d : Nat) (post : ρ → Prop) (a1 : A1) (a2 : A2) (a3 : A3), ok a1 a2 a3 → μ a1 a2 a3 < d → post (val a1 a2 a3) → W d post a1 a2 a3 := by
  intro d
  induction d with
  | zero => intro post a1 a2 a3 _ h; omega
  | succ d ih =>
    intro post a1 a2 a3 ho hm hp
    exact hs d post a1 a2 a3 ho hp (fun post' b1 b2 b3 ho' hm' hp' => ih post' b1 b2 b3 ho' (by omega) hp')
theorem rp4 {ρ A1 A2 A3 A4 : Type} (W : Nat → (ρ → Prop) → A1 → A2 → A3 → A4 → Prop) (ok : A1 → A2 → A3 → A4 → Prop) (μ : A1 → A2 → A3 → A4 → Nat) (val : A1 → A2 → A3 → A4 → ρ)
    (hs : ∀ (d : Nat) (post : ρ → Prop) (a1 : A1) (a2 : A2) (a3 : A3) (a4 : A4), ok a1 a2 a3 a4 → post (val a1 a2 a3 a4) → (∀ (post' : ρ → Prop) (b1 : A1) (b2 : A2) (b3 : A3) (b4 : A4), ok b1 b2 b3 b4 → μ b1 b2 b3 b4 < μ a1 a2 a3 a4 → post' (val b1 b2 b3 b4) → W d post' b1 b2 b3 b4) → W (d + 1) post a1 a2 a3 a4) :
    ∀ (d : Nat) (post : ρ → Prop) (a1 : A1) (a2 : A2) (a3 : A3) (a4 : A4), ok a1 a2 a3 a4 → μ a1 a2 a3 a4 < d → post (val a1 a2 a3 a4) → W d post a1 a2 a3 a4 := by
  intro d
  induction d with
  | zero => intro post a1 a2 a3 a4 _ h; omega
  | succ d ih =>
    intro post a1 a2 a3 a4 ho hm hp
    exact hs d post a1 a2 a3 a4 ho hp (fun post' b1 b2 b3 b4 ho' hm' hp' => ih post' b1 b2 b3 b4 ho' (by omega) hp')
theorem rp5 {ρ A1 A2 A3 A4 A5 : Type} (W : Nat → (ρ → Prop) → A1 → A2 → A3 → A4 → A5 → Prop) (ok : A1 → A2 → A3 → A4 → A5 → Prop) (μ : A1 → A2 → A3 → A4 → A5 → Nat) (val : A1 → A2 → A3 → A4 → A5 → ρ)
    (hs : ∀ (d : Nat) (post : ρ → Prop) (a1 : A1) (a2 : A2) (a3 : A3) (a4 : A4) (a5 : A5), ok a1 a2 a3 a4 a5 → post (val a1 a2 a3 a4 a5) → (∀ (post' : ρ → Prop) (b1 : A1) (b2 : A2) (b3 : A3) (b4 : A4) (b5 : A5), ok b1 b2 b3 b4 b5 → μ b1 b2 b3 b4 b5 < μ a1 a2 a3 a4 a5 → post' (val b1 b2 b3 b4 b5) → W d post' b1 b2 b3 b4 b5) → W (d + 1) post a1 a2 a3 a4 a5) :
    ∀ (d : Nat) (post : ρ → Prop) (a1 : A1) (a2 : A2) (a3 : A3) (a4 : A4) (a5 : A5), ok a1 a2 a3 a4 a5 → μ a1 a2 a3 a4 a5 < d → post (val a1 a2 a3 a4 a5) → W d post a1 a2 a3 a4 a5 := by
  intro d
  induction d with
  | zero => intro post a1 a2 a3 a4 a5 _ h; omega
  | succ d ih =>
    intro post a1 a2 a3 a4 a5 ho hm hp
    exact hs d post a1 a2 a3 a4 a5 ho hp (fun post' b1 b2 b3 b4 b5 ho' hm' hp' => ih post' b1 b2 b3 b4 b5 ho' (by omega) hp')
theorem rp6 {ρ A1 A2 A3 A4 A5 A6 : Type} (W : Nat → (ρ → Prop) → A1 → A2 → A3 → A4 → A5 → A6 → Prop) (ok : A1 → A2 → A3 → A4 → A5 → A6 → Prop) (μ : A1 → A2 → A3 → A4 → A5 → A6 → Nat) (val : A1 → A2 → A3 → A4 → A5 → A6 → ρ)
    (hs : ∀ (d : Nat) (post : ρ → Prop) (a1 : A1) (a2 : A2) (a3 : A3) (a4 : A4) (a5 : A5) (a6 : A6), ok a1 a2 a3 a4 a5 a6 → post (val a1 a2 a3 a4 a5 a6) → (∀ (post' : ρ → Prop) (b1 : A1) (b2 : A2) (b3 : A3) (b4 : A4) (b5 : A5) (b6 : A6), ok b1 b2 b3 b4 b5 b6 → μ b1 b2 b3 b4 b5 b6 < μ a1 a2 a3 a4 a5 a6 → post' (val b1 b2 b3 b4 b5 b6) → W d post' b1 b2 b3 b4 b5 b6) → W (d + 1) post a1 a2 a3 a4 a5 a6) :
    ∀ (d : Nat) (post : ρ → Prop) (a1 : A1) (a2 : A2) (a3 : A3) (a4 : A4) (a5 : A5) (a6 : A6), ok a1 a2 a3 a4 a5 a6 → μ a1 a2 a3 a4 a5 a6 < d → post (val a1 a2 a3 a4 a5 a6) → W d post a1 a2 a3 a4 a5 a6 := by
  intro d
  induction d with
  | zero => intro post a1 a2 a3 a4 a5 a6 _ h; omega
  | succ d ih =>
    intro post a1 a2 a3 a4 a5 a6 ho hm hp
    exact hs d post a1 a2 a3 a4 a5 a6 ho hp (fun post' b1 b2 b3 b4 b5 b6 ho' hm' hp' => ih post' b1 b2 b3 b4 b5 b6 ho' (by omega) hp')
theorem rec_p {σ ρ : Type} (W : Nat → (ρ → Prop) → σ → Prop) (ok : σ → Prop) (μ : σ → Nat) (val : σ → ρ)
    (hs : ∀ d s post, ok s → post (val s) → (∀ s' post', ok s' → μ s' < μ s → post' (val s') → W d post' s') → W (d + 1) post s) :
    ∀ d s post, ok s → μ s < d → post (val s) → W d post s := by
  intro d
  induction d with
  | zero => intro s post _ h; omega
  | succ d ih =>
    intro s post ho hm hp
    exact hs d s post ho hp (fun s' post' ho' hm' hp' => ih s' post' ho' (by omega) hp')
theorem rec_q {σ ρ : Type} (W : Nat → (ρ → Prop) → σ → Prop) (ok : σ → Prop) (μ : σ → Nat) (Q : σ → ρ → Prop)
    (hs : ∀ d s post, ok s → (∀ r, Q s r → post r) → (∀ s' post', ok s' → μ s' < μ s → (∀ r, Q s' r → post' r) → W d post' s') → W (d + 1) post s) :
    ∀ d s post, ok s → μ s < d → (∀ r, Q s r → post r) → W d post s := by
  intro d
  induction d with
  | zero => intro s post _ h; omega
  | succ d ih =>
    intro s post ho hm hp
    exact hs d s post ho hp (fun s' post' ho' hm' hp' => ih s' post' ho' (by omega) hp')
def bx_sum (f : Nat → Int32) : Nat → Int32
  | 0 => 0
  | n + 1 => bx_sum f n + f n
theorem ek_u {A : Prop} {B : Nat → Prop} {k N : Nat} (hk : k < N) (h : B k) : (some k = none → A) ∧ (∀ y : Nat, some k = some y → (y < N ∧ B y)) :=
  ⟨fun z => absurd z (Option.some_ne_none k), fun _ e => (by cases e; exact ⟨hk, h⟩)⟩
theorem ek_nu {A : Prop} {B : Nat → Prop} (h : A) : ((none : Option Nat) = none → A) ∧ (∀ y : Nat, (none : Option Nat) = some y → B y) :=
  ⟨fun _ => h, fun _ e => (by cases e)⟩
theorem ek_if {c d A B : Prop} (e : c ↔ d) (f : d → A) (g : ¬ d → B) : (c → A) ∧ (¬ c → B) :=
  ⟨fun z => f (e.mp z), fun z => g (fun y => z (e.mpr y))⟩
theorem ek_v {α : Sort _} {P : α → Prop} {a b : α} (e : a = b) (h : P b) : P a := e ▸ h
theorem co_some {x : Option Nat} {A : Prop} {B : Nat → Prop} (i : Nat) (h : B i) (hx : x = some i := by rfl) : (x = none → A) ∧ (∀ y : Nat, x = some y → B y) := by
  subst hx
  exact ⟨fun e => (nomatch e), fun y e => Option.some.inj e ▸ h⟩
theorem co_none {x : Option Nat} {A : Prop} {B : Nat → Prop} (h : A) (hx : x = none := by rfl) : (x = none → A) ∧ (∀ y : Nat, x = some y → B y) := by
  subst hx
  exact ⟨fun _ => h, fun y e => (nomatch e)⟩
theorem co_any {x : Option Nat} {A : Prop} {B : Nat → Prop} (hn : x = none → A) (hs : ∀ i : Nat, x = some i → B i) : (x = none → A) ∧ (∀ y : Nat, x = some y → B y) := ⟨hn, hs⟩
theorem co_2 {P : Nat → Prop} (h0 : P 0) (h1 : P 1) {i : Nat} (hi : i < 2) : P i :=
  match i, hi with
  | 0, _ => h0
  | 1, _ => h1
theorem co_3 {P : Nat → Prop} (h0 : P 0) (h1 : P 1) (h2 : P 2) {i : Nat} (hi : i < 3) : P i :=
  match i, hi with
  | 0, _ => h0
  | 1, _ => h1
  | 2, _ => h2
theorem co_4 {P : Nat → Prop} (h0 : P 0) (h1 : P 1) (h2 : P 2) (h3 : P 3) {i : Nat} (hi : i < 4) : P i :=
  match i, hi with
  | 0, _ => h0
  | 1, _ => h1
  | 2, _ => h2
  | 3, _ => h3
theorem co_dec {N : Nat} {P : Nat → Prop} [DecidablePred P] (h : (List.range N).all (fun i => decide (P i)) = true) {i : Nat} (hi : i < N) : P i := by
  have := List.all_eq_true.mp h i (List.mem_range.mpr hi)
  exact of_decide_eq_true this
theorem co_tab {α : Type} {l : List α} {d : α} {P : α → Prop} (h : ∀ a, a ∈ l → P a) {i : Nat} (hi : i < l.length) : P (l.getD i d) := by
  rw [List.getD_eq_getElem?_getD, List.getElem?_eq_getElem hi]
  exact h _ (List.getElem_mem hi)
theorem pk_mu {x : Int32} {L : Nat} (h0 : ¬ x < 0) (h : ¬ nI L ≤ x) (hL : L < 2 ^ 31) : ∃ j : Nat, j < L ∧ x = nI j ∧ x + 1 = nI (j + 1) ∧ x.toNatClampNeg = j ∧ L - (x + 1).toNatClampNeg < L - x.toNatClampNeg := by
  obtain ⟨j, hj, rfl⟩ := nI_of h0
  have hl : j < L := Nat.not_le.mp fun q => h (nI_le q hj)
  refine ⟨j, hl, rfl, nI_1 j, nI_clamp hj, ?_⟩
  rw [nI_1, nI_clamp (by omega), nI_clamp hj]
  omega
theorem op_s {α : Type} {r : Option α} {A : Prop} {B : α → Prop} {y : α} (h : r = some y) (b : B y) : (r = none → A) ∧ ∀ z, r = some z → B z :=
  ⟨fun e => (by rw [h] at e; cases e), fun z e => (by rw [h] at e; cases e; exact b)⟩
def l_holds {α : Type} (a : Nat → Option Nat) (LP : List Nat) (p : Nat → α) (c : Nat) (b : Nat → α) : Prop :=
  ∀ j, j < c → ∃ y, a j = some y ∧ y ∈ LP ∧ p y = b j
theorem l_holds_0 {α : Type} {a : Nat → Option Nat} {LP : List Nat} {p b : Nat → α} : l_holds a LP p 0 b := fun j h => absurd h (Nat.not_lt_zero j)
theorem l_in_new (LP : List Nat) (q : Nat) : q ∈ LP ++ [q] := List.mem_append.mpr (Or.inr (List.mem_singleton.mpr rfl))
def l_sum (b : Nat → Int32) : Nat → Int32
  | 0 => 0
  | k + 1 => l_sum b k + b k
theorem sb_shr0 (x : Int32) : x >>> ((0 : Int32) &&& 31) = x := by
  rw [show ((0 : Int32) &&& 31) = 0 by decide]
  simp
theorem sb_shl0 (x : Int32) : x <<< ((0 : Int32) &&& 31) = x := by
  rw [show ((0 : Int32) &&& 31) = 0 by decide]
  simp
theorem sb_cl0 : (0 : Int32).toNatClampNeg = 0 := by decide
theorem sb_m1 {p : Nat} (h : 0 < p) : nI p + (-1) = nI (p - 1) := by
  obtain ⟨q, rfl⟩ : ∃ q, p = q + 1 := ⟨p - 1, by omega⟩
  exact pk_m1 q
def sb_b (c : Nat) : Int32 := (nI c).toInt8.toInt32
theorem sb_byte : ∀ c, c < 256 → sb_b c &&& 255 = nI c ∧ ((nI c).toUInt32 % 65536).toInt32 = nI c ∧ nI c ≤ 255 := by decide +kernel
def sb_Fit (a : Nat → Int32) : Prop := ∀ j, fits .byte (.int (a j)) = true
def sb_Lat (t : Nat → Nat) (n : Nat) (a : Nat → Int32) : Prop := ∀ j, j < n → t j < 256 ∧ a j = sb_b (t j)
theorem sb_fitB (c : Nat) : fits .byte (.int (sb_b c)) = true := pk_fb _
theorem sb_fit0 : sb_Fit (fun _ => 0) := fun _ => by
  show fits .byte (.int 0) = true
  decide
theorem sb_fitU {a : Nat → Int32} {k : Nat} {x : Int32} (h : sb_Fit a) (hx : fits .byte (.int x) = true) : sb_Fit (upd a k x) := by
  intro j
  by_cases e : j = k
  · subst e
    rw [pk_us]
    exact hx
  · rw [pk_un e]
    exact h j
def sb_cat (t : Nat → Nat) (n : Nat) (s : Nat → Nat) : Nat → Nat := fun j => if j < n then t j else s (j - n)
theorem sb_cat_lo {t s : Nat → Nat} {n j : Nat} (h : j < n) : sb_cat t n s j = t j := if_pos h
theorem sb_cat_hi {t s : Nat → Nat} {n j : Nat} : sb_cat t n s (n + j) = s j := by
  show (if n + j < n then t (n + j) else s (n + j - n)) = s j
  rw [if_neg (by omega), Nat.add_sub_cancel_left]
theorem sb_latPut {t s : Nat → Nat} {n w : Nat} {a a' : Nat → Int32} (h : sb_Lat t n a) (hk : ∀ j, j < n → a' j = a j) (hs : ∀ i, i < w → s i < 256 ∧ a' (n + i) = sb_b (s i)) : sb_Lat (sb_cat t n s) (n + w) a' := by
  intro j hj
  by_cases e : j < n
  · rw [sb_cat_lo e, hk j e]
    exact h j e
  · obtain ⟨i, rfl⟩ : ∃ i, j = n + i := ⟨j - n, by omega⟩
    rw [sb_cat_hi]
    exact hs i (by omega)
theorem sb_latKeep {t : Nat → Nat} {n : Nat} {a a' : Nat → Int32} (h : sb_Lat t n a) (hk : ∀ j, j < n → a' j = a j) : sb_Lat t n a' := fun j hj => by
  rw [hk j hj]
  exact h j hj
def sb_cap (q m : Nat) : Nat := if q ≤ m then m else if 2 * m + 2 < q then q else 2 * m + 2
def sb_Room (q m mc ms : Nat) : Prop := q ≤ m ∨ (1 ≤ mc ∧ sb_cap q m ≤ ms ∧ sb_cap q m ≤ 65536)
theorem sb_cap_ge (q m : Nat) : q ≤ sb_cap q m := by
  unfold sb_cap
  split
  · omega
  · split <;> omega
theorem sb_cap_gem (q m : Nat) : m ≤ sb_cap q m := by
  unfold sb_cap
  split
  · omega
  · split <;> omega
theorem sb_cap_le {q m mc ms : Nat} (hm : m ≤ 65536) (hr : sb_Room q m mc ms) : sb_cap q m ≤ 65536 := by
  rcases hr with h | h
  · rw [sb_cap, if_pos h]
    exact hm
  · exact h.2.2
theorem sb_at {P : Int32 → Prop} {x y : Int32} (e : x = y) (h : P y) : P x := e ▸ h
def sb_dg (w : Nat) : Nat := if w < 10 then 1 else if w < 100 then 2 else if w < 1000 then 3 else if w < 10000 then 4 else if w < 100000 then 5 else if w < 1000000 then 6 else if w < 10000000 then 7 else if w < 100000000 then 8 else if w < 1000000000 then 9 else 10
def sb_dec (v : Nat) : Nat → Nat := fun i => 48 + v / 10 ^ (sb_dg v - 1 - i) % 10
theorem sb_dg_in (w : Nat) : 1 ≤ sb_dg w ∧ sb_dg w ≤ 10 := by
  unfold sb_dg
  constructor <;> (repeat' split) <;> omega
theorem sb_dg100 {w : Nat} (h : 100 ≤ w) (hw : w < 2 ^ 31) : sb_dg w = sb_dg (w / 100) + 2 := by
  rw [sb_dg, sb_dg, if_neg (show ¬ w < 10 by omega), if_neg (show ¬ w < 100 by omega)]
  by_cases h3 : w < 1000
  · rw [if_pos h3, if_pos (show w / 100 < 10 by omega)]
  rw [if_neg h3, if_neg (show ¬ w / 100 < 10 by omega)]
  by_cases h4 : w < 10000
  · rw [if_pos h4, if_pos (show w / 100 < 100 by omega)]
  rw [if_neg h4, if_neg (show ¬ w / 100 < 100 by omega)]
  by_cases h5 : w < 100000
  · rw [if_pos h5, if_pos (show w / 100 < 1000 by omega)]
  rw [if_neg h5, if_neg (show ¬ w / 100 < 1000 by omega)]
  by_cases h6 : w < 1000000
  · rw [if_pos h6, if_pos (show w / 100 < 10000 by omega)]
  rw [if_neg h6, if_neg (show ¬ w / 100 < 10000 by omega)]
  by_cases h7 : w < 10000000
  · rw [if_pos h7, if_pos (show w / 100 < 100000 by omega)]
  rw [if_neg h7, if_neg (show ¬ w / 100 < 100000 by omega)]
  by_cases h8 : w < 100000000
  · rw [if_pos h8, if_pos (show w / 100 < 1000000 by omega)]
  rw [if_neg h8, if_neg (show ¬ w / 100 < 1000000 by omega)]
  by_cases h9 : w < 1000000000
  · rw [if_pos h9, if_pos (show w / 100 < 10000000 by omega)]
  rw [if_neg h9, if_neg (show ¬ w / 100 < 10000000 by omega)]
  rw [if_pos (show w / 100 < 100000000 by omega)]
theorem sb_negT {w : Nat} (h : w < 2 ^ 31) : (-nI w).toInt = -(w : Int) := by
  rw [Int32.toInt_neg, nI_toInt h]
  exact Int.bmod_eq_of_le (by omega) (by omega)
theorem sb_nle {a b : Nat} (ha : a < 2 ^ 31) (hb : b < 2 ^ 31) : -nI a ≤ -nI b ↔ b ≤ a := by
  rw [Int32.le_iff_toInt_le, sb_negT ha, sb_negT hb]
  omega
theorem sb_nlt {a b : Nat} (ha : a < 2 ^ 31) (hb : b < 2 ^ 31) : -nI a < -nI b ↔ b < a := by
  rw [Int32.lt_iff_toInt_lt, sb_negT ha, sb_negT hb]
  omega
theorem sb_cmp {A B : Prop} {x : Int32} (v c : Nat) (f : c ≤ v → A) (g : v < c → B) (hv : v < 2 ^ 31) (hx : x = -nI c := by rfl) (hc : c < 2 ^ 31 := by omega) : (-nI v ≤ x → A) ∧ (¬ -nI v ≤ x → B) := by
  subst hx
  rw [sb_nle hv hc]
  exact ⟨f, fun z => g (by omega)⟩
theorem sb_ndiv {w : Nat} (hw : w < 2 ^ 31) : (-nI w) / 100 = -nI (w / 100) := by
  apply Int32.toInt_inj.mp
  have h100 : (100 : Int32).toInt = 100 := by decide
  rw [Int32.toInt_div, sb_negT hw, h100, sb_negT (by omega), Int.neg_tdiv, Int.tdiv_eq_ediv_of_nonneg (by omega), Int.bmod_eq_of_le (by omega) (by omega)]
  omega
theorem sb_nrem {w : Nat} (hw : w < 2 ^ 31) : (-nI (w / 100)) * 100 - (-nI w) = nI (w % 100) := by
  have h := pk_rem (a := w) (d := 100) hw (by decide) (by decide)
  rw [pk_div hw (by decide) (by decide)] at h
  rw [← h]
  show (-nI (w / 100)) * nI 100 - (-nI w) = nI w - nI (w / 100) * nI 100
  rw [Int32.neg_mul, Int32.sub_neg, Int32.add_comm, ← Int32.sub_eq_add_neg]
end
section
/-! base rows: point updates of ghost functions, Int32 indices 5 * n + k, narrowing of small numbers, list splits -/
def ev_u {α : Type} (E : Nat → α) (n : Nat) (l : α) : Nat → α := fun m => if m = n then l else E m
theorem ev_us {α : Type} {E : Nat → α} {n : Nat} {l : α} : ev_u E n l n = l := if_pos rfl
theorem ev_un {α : Type} {E : Nat → α} {n m : Nat} {l : α} (h : m ≠ n) : ev_u E n l m = E m := if_neg h
theorem ev_cl5 {a b : Nat} (h : 5 * a + b < 1000) : (5 * nI a + nI b).toNatClampNeg = 5 * a + b := by
  show (nI 5 * nI a + nI b).toNatClampNeg = _
  rw [pk_mul, nI_add, nI_clamp (by omega)]
theorem ev_in5 {a b : Nat} (h : 5 * a + b < 1000) : vp_in (5 * nI a + nI b) 1000 := by
  show vp_in (nI 5 * nI a + nI b) 1000
  rw [pk_mul, nI_add]; exact vp_in_nI h (by omega)
theorem ev_cl50 {a : Nat} (h : 5 * a < 1000) : (5 * nI a).toNatClampNeg = 5 * a := by
  show (nI 5 * nI a).toNatClampNeg = _
  rw [pk_mul, nI_clamp (by omega)]
theorem ev_in50 {a : Nat} (h : 5 * a < 1000) : vp_in (5 * nI a) 1000 := by
  show vp_in (nI 5 * nI a) 1000
  rw [pk_mul]; exact vp_in_nI h (by omega)
theorem ev_cl5m {a b : Nat} (h : 5 * a + b < 1000) : (5 * nI a + nI (b + 1) - 1).toNatClampNeg = 5 * a + b := by
  show (nI 5 * nI a + nI (b + 1) - 1).toNatClampNeg = _
  rw [pk_mul, nI_add, show 5 * a + (b + 1) = (5 * a + b) + 1 from rfl, nI_pred, nI_clamp (by omega)]
theorem ev_in5m {a b : Nat} (h : 5 * a + b < 1000) : vp_in (5 * nI a + nI (b + 1) - 1) 1000 := by
  show vp_in (nI 5 * nI a + nI (b + 1) - 1) 1000
  rw [pk_mul, nI_add, show 5 * a + (b + 1) = (5 * a + b) + 1 from rfl, nI_pred]; exact vp_in_nI h (by omega)
theorem ev_cl5p {a b : Nat} (h : 5 * a + b + 1 < 1000) : (5 * nI a + nI b + 1).toNatClampNeg = 5 * a + b + 1 := by
  show (nI 5 * nI a + nI b + 1).toNatClampNeg = _
  rw [pk_mul, nI_add, nI_1, nI_clamp (by omega)]
theorem ev_in5p {a b : Nat} (h : 5 * a + b + 1 < 1000) : vp_in (5 * nI a + nI b + 1) 1000 := by
  show vp_in (nI 5 * nI a + nI b + 1) 1000
  rw [pk_mul, nI_add, nI_1]; exact vp_in_nI h (by omega)
theorem ev_b {k : Nat} (h : k < 128) : (nI k).toInt8.toInt32 = nI k := lg_i2b_small (by rw [nI_toInt (by omega)]; omega) (by rw [nI_toInt (by omega)]; omega)
theorem ev_s {k : Nat} (h : k < 32768) : (nI k).toInt16.toInt32 = nI k := lg_i2s_small (by rw [nI_toInt (by omega)]; omega) (by rw [nI_toInt (by omega)]; omega)
theorem ev_nb {k : Nat} (h : k < 128) : vp_nar .byte (nI k) = nI k := by rw [vp_nar_byte, ev_b h]
theorem ev_nbb {k : Nat} (h : k < 128) : vp_nar .byte (nI k).toInt8.toInt32 = nI k := by rw [ev_b h, ev_nb h]
theorem ev_ns {k : Nat} (h : k < 32768) : vp_nar .short (nI k) = nI k := by rw [vp_nar_short, ev_s h]
theorem ev_nss {k : Nat} (h : k < 32768) : vp_nar .short (nI k).toInt16.toInt32 = nI k := by rw [ev_s h, ev_ns h]
theorem ev_nsm : vp_nar .short (-1) = -1 := by rw [vp_nar_short]; decide
theorem ev_nb0 : vp_nar .byte 0 = nI 0 := ev_nb (k := 0) (by omega)
theorem ev_nb3 : vp_nar .byte 3 = nI 3 := ev_nb (k := 3) (by omega)
theorem ev_bo0 : vp_nar .boolean 0 = 0 := by rfl
theorem ev_bo1 : vp_nar .boolean 1 = 1 := by rfl
theorem ev_ne {P : Prop} {x : Int32} {e : Int32} (he : e = x) (h : P) : P := h
/-- an optional node: -1 for none -/
def ev_o : Option Nat → Int32
  | none => -1
  | some n => nI n
theorem ev_o_s {n : Nat} (h : n < 200) : vp_nar .short (ev_o (some n)) = ev_o (some n) := ev_ns (k := n) (by omega)
theorem ev_o_n : vp_nar .short (ev_o none) = ev_o none := ev_nsm
/-- lists: a member splits its list by its place -/
theorem ev_spl {α : Type} : ∀ {l : List α} {k : Nat} {e : α}, l[k]? = some e → ∃ A B, l = A ++ e :: B ∧ A.length = k
  | [], k, e, h => by simp at h
  | a :: l, 0, e, h => by
      have : a = e := by simpa using h
      exact ⟨[], l, by rw [this]; rfl, rfl⟩
  | a :: l, k + 1, e, h => by
      have h' : l[k]? = some e := by simpa using h
      obtain ⟨A, B, e1, e2⟩ := ev_spl h'
      exact ⟨a :: A, B, by rw [e1]; rfl, by rw [List.length_cons, e2]⟩
theorem ev_mid {α : Type} {A B : List α} {e : α} : (A ++ e :: B)[A.length]? = some e := by
  rw [List.getElem?_append_right (Nat.le_refl _), Nat.sub_self]; rfl
theorem ev_fmc {α : Type} {E E' : Nat → List α} : ∀ {l : List Nat}, (∀ m, m ∈ l → E' m = E m) → l.flatMap E' = l.flatMap E
  | [], _ => rfl
  | a :: l, h => by
      rw [List.flatMap_cons, List.flatMap_cons, h a (List.mem_cons_self ..), ev_fmc (l := l) (fun m hm => h m (List.mem_cons_of_mem _ hm))]
/-- a list cut at a length -/
theorem ev_cut {α : Type} : ∀ (l : List α) (k : Nat), k ≤ l.length → ∃ A B, l = A ++ B ∧ A.length = k
  | l, 0, _ => ⟨[], l, rfl, rfl⟩
  | [], k + 1, h => by simp at h
  | a :: l, k + 1, h => by
      obtain ⟨A, B, e1, e2⟩ := ev_cut l k (by simpa using h)
      exact ⟨a :: A, B, by rw [e1]; rfl, by rw [List.length_cons, e2]⟩
end
section
/-! the heap of nodes: E n is the list of entries (key, child) of node n; the walks of node, the entry moves -/
section
variable {fb sp dp kp lg ls fd mn : Int32} {pc us it ln ks bl sz lf nx pv sr rt pa wy oa ov bg : Nat → Int32}
def ev_hp (E : Nat → List (Nat × Nat)) (ks bl sz : Nat → Int32) : Prop :=
  ∀ n, n < 200 → (E n).length ≤ 5 ∧ sz n = nI (E n).length ∧
    ∀ k e, (E n)[k]? = some e → e.1 < 2 ^ 24 ∧ e.2 < 200 ∧ ks (5 * n + k) = nI e.1 ∧ bl (5 * n + k) = nI e.2
theorem ev_hp_lt {E : Nat → List (Nat × Nat)} {n k : Nat} {e : Nat × Nat} (he : (E n)[k]? = some e) : k < (E n).length :=
  (List.getElem?_eq_some_iff.mp he).1
theorem ev_hp_node {E : Nat → List (Nat × Nat)} {r : Nat} (h : ev_hp E ks bl sz) : ev_hp (ev_u E r []) ks bl (upd sz r (nI 0)) := by
  intro n hn
  by_cases e : n = r
  · subst e
    rw [ev_us, pk_us]
    exact ⟨by simp, rfl, fun k e he => by simp at he⟩
  · rw [ev_un e, pk_un e]
    exact h n hn
theorem ev_node {post : Int32 → SX → Prop} {c r : Nat} {p0 : Int32} (hc : c < 200) (hr : r < 200) (hsr : sr c = nI r) (hp0 : p0 = 0 ∨ p0 = 1)
    (H : post (nI r) (fb, nI c, dp, kp, lg, ls, fd, mn, pc, us, it, ln, ks, bl, upd sz r (nI 0), upd lf r p0, upd nx r (-1), upd pv r (-1), sr, rt, pa, wy, oa, ov, bg)) :
    wpX_node post (fb, nI (c + 1), dp, kp, lg, ls, fd, mn, pc, us, it, ln, ks, bl, sz, lf, nx, pv, sr, rt, pa, wy, oa, ov, bg) p0 := by
  intro s es
  rw [nI_pred] at es
  subst es
  rw [nI_pred]
  refine And.intro (vp_in_nI hc (by omega)) (fun x ex => ?_)
  rw [nI_clamp (by omega), hsr] at ex
  subst ex
  have hi : vp_in (nI r) 200 := vp_in_nI hr (by omega)
  have hb : vp_nar .boolean p0 = p0 := by
    rcases hp0 with e | e
    · rw [e]; exact ev_bo0
    · rw [e]; exact ev_bo1
  refine ⟨hi, fun z ez => ⟨hi, fun f ef => ⟨hi, fun a ea => ⟨hi, fun b eb => ?_⟩⟩⟩⟩
  rw [nI_clamp (by omega)] at ez ef ea eb
  rw [ez, ef, ea, eb, ev_nb0, hb, ev_nsm]
  exact H
def ev_oS (f f' : Nat → Int32) (n a d : Nat) (v : Int32) : Prop :=
  f' (5 * n + a) = v ∧ (∀ i, i < d → f' (5 * n + (a + i + 1)) = f (5 * n + (a + i))) ∧ (∀ i, i < 5 * n + a ∨ 5 * n + (a + d) < i → f' i = f i)
theorem ev_oS0 {f : Nat → Int32} {n a : Nat} {v : Int32} : ev_oS f (upd f (5 * n + a) v) n a 0 v :=
  ⟨pk_us, fun i hi => absurd hi (Nat.not_lt_zero _), fun i hi => pk_un (by omega)⟩
theorem ev_oSs {f k f' : Nat → Int32} {n a d : Nat} {v : Int32} (h : ev_oS k f' n a d v) (e : k = upd f (5 * n + (a + d + 1)) (f (5 * n + (a + d)))) : ev_oS f f' n a (d + 1) v := by
  subst e
  refine ⟨h.1, fun i hi => ?_, fun i hi => ?_⟩
  · by_cases c : i < d
    · rw [h.2.1 i c]; exact pk_un (by omega)
    · have c' : i = d := by omega
      subst c'
      rw [h.2.2 _ (by omega)]; exact pk_us
  · rw [h.2.2 i (by omega)]; exact pk_un (by omega)
theorem ev_open8 {post : SX → Prop} {n a s ch : Nat} {key : Int32} (hn : n < 200) (hch : ch < 200) (hs : s < 100) (hsz : sz n = nI s) :
    ∀ (d : Nat) (ks bl : Nat → Int32), a + d ≤ 4 → (∀ i, i < d → vp_nar .short (bl (5 * n + (a + i))) = bl (5 * n + (a + i))) →
    (∀ ks' bl', ev_oS ks ks' n a d key → ev_oS bl bl' n a d (nI ch) → post (fb, sp, dp, kp, lg, ls, fd, mn, pc, us, it, ln, ks', bl', upd sz n (nI (s + 1)), lf, nx, pv, sr, rt, pa, wy, oa, ov, bg)) →
    wX_open_8 post (nI n) (nI a) key (nI ch) fb sp dp kp lg ls fd mn (d + 1) (nI (a + d)) pc us it ln ks bl sz lf nx pv sr rt pa wy oa ov bg := by
  intro d
  induction d with
  | zero =>
    intro ks bl had _ H
    refine br_t (nI_le (Nat.le_refl _) (by omega)) ⟨ev_in5 (by omega), fun k ek => ⟨ev_in5 (by omega), fun b eb => ⟨vp_in_nI hn (by omega), vp_in_nI hn (by omega), fun z ez => ?_⟩⟩⟩
    rw [ev_cl5 (by omega)] at ek eb
    rw [nI_clamp (by omega), hsz, nI_1, ev_nbb (by omega)] at ez
    rw [ev_nss (by omega)] at eb
    rw [ez]
    refine H k b ?_ ?_
    · rw [ek]; exact ev_oS0
    · rw [eb]; exact ev_oS0
  | succ d ih =>
    intro ks bl had hb H
    show wX_open_8 post (nI n) (nI a) key (nI ch) fb sp dp kp lg ls fd mn (d + 1 + 1) (nI (a + d + 1)) pc us it ln ks bl sz lf nx pv sr rt pa wy oa ov bg
    refine br_f (nI_ge (by omega) (by omega)) ⟨ev_in5m (by omega), ev_in5 (by omega), fun k ek => ⟨ev_in5m (by omega), ev_in5 (by omega), fun b eb y ey => ?_⟩⟩
    rw [ev_cl5 (by omega), ev_cl5m (by omega)] at ek eb
    rw [pk_m1] at ey
    rw [hb d (by omega)] at eb
    subst ey
    refine ih k b (by omega) (fun i hi => ?_) (fun k' b' o1 o2 => H k' b' (ev_oSs o1 ek) (ev_oSs o2 eb))
    rw [eb, pk_un (by omega)]
    exact hb i (by omega)
theorem ev_hp_open {E : Nat → List (Nat × Nat)} {n key ch : Nat} {A B : List (Nat × Nat)} {ks' bl' : Nat → Int32} (h : ev_hp E ks bl sz) (hn : n < 200) (hE : E n = A ++ B) (hl : A.length + B.length ≤ 4) (hk : key < 2 ^ 24) (hc : ch < 200)
    (o1 : ev_oS ks ks' n A.length B.length (nI key)) (o2 : ev_oS bl bl' n A.length B.length (nI ch)) :
    ev_hp (ev_u E n (A ++ (key, ch) :: B)) ks' bl' (upd sz n (nI (A.length + B.length + 1))) := by
  intro m hm
  by_cases e : m = n
  · subst e
    rw [ev_us, pk_us]
    have hlen : (A ++ (key, ch) :: B).length = A.length + B.length + 1 := by simp; omega
    refine ⟨by omega, by rw [hlen], fun k e he => ?_⟩
    obtain ⟨_, _, h3⟩ := h m hm
    by_cases c1 : k < A.length
    · have he' : (E m)[k]? = some e := by
        rw [hE, List.getElem?_append_left c1]
        rwa [List.getElem?_append_left c1] at he
      have q := h3 k e he'
      rw [o1.2.2 _ (by omega), o2.2.2 _ (by omega)]
      exact q
    · rw [List.getElem?_append_right (by omega)] at he
      by_cases c2 : k = A.length
      · subst c2
        rw [Nat.sub_self] at he
        have he' : (key, ch) = e := by simpa using he
        subst he'
        exact ⟨hk, hc, o1.1, o2.1⟩
      · obtain ⟨i, rfl⟩ : ∃ i, k = A.length + i + 1 := ⟨k - A.length - 1, by omega⟩
        rw [show A.length + i + 1 - A.length = i + 1 from by omega, List.getElem?_cons_succ] at he
        have hi : i < B.length := (List.getElem?_eq_some_iff.mp he).1
        have he' : (E m)[A.length + i]? = some e := by
          rw [hE, List.getElem?_append_right (by omega), show A.length + i - A.length = i from by omega]
          exact he
        have q := h3 _ e he'
        rw [o1.2.1 i hi, o2.2.1 i hi]
        exact q
  · rw [ev_un e, pk_un e]
    obtain ⟨h1, h2, h3⟩ := h m hm
    refine ⟨h1, h2, fun k e' he => ?_⟩
    have hk5 : k < 5 := Nat.lt_of_lt_of_le (ev_hp_lt he) h1
    rw [o1.2.2 _ (by omega), o2.2.2 _ (by omega)]
    exact h3 k e' he
theorem ev_open {post : SX → Prop} {E : Nat → List (Nat × Nat)} {n key ch : Nat} {A B : List (Nat × Nat)} (h : ev_hp E ks bl sz) (hn : n < 200) (hE : E n = A ++ B) (hl : A.length + B.length ≤ 4) (hk : key < 2 ^ 24) (hc : ch < 200)
    (H : ∀ ks' bl' sz', ev_hp (ev_u E n (A ++ (key, ch) :: B)) ks' bl' sz' → post (fb, sp, dp, kp, lg, ls, fd, mn, pc, us, it, ln, ks', bl', sz', lf, nx, pv, sr, rt, pa, wy, oa, ov, bg)) :
    wpX_open post (fb, sp, dp, kp, lg, ls, fd, mn, pc, us, it, ln, ks, bl, sz, lf, nx, pv, sr, rt, pa, wy, oa, ov, bg) (nI n) (nI A.length) (nI key) (nI ch) := by
  refine And.intro (vp_in_nI hn (by omega)) (fun x ex => Exists.intro (B.length + 1) ?_)
  obtain ⟨h1, h2, h3⟩ := h n hn
  rw [nI_clamp (by omega), h2, hE, List.length_append] at ex
  rw [hE, List.length_append] at h2
  subst ex
  refine ev_open8 hn hc (s := A.length + B.length) (by omega) h2 B.length ks bl hl (fun i hi => ?_) (fun ks' bl' o1 o2 => H ks' bl' _ (ev_hp_open h hn hE hl hk hc o1 o2))
  have q := h3 (A.length + i) (B[i]'hi) (by rw [hE, List.getElem?_append_right (by omega), show A.length + i - A.length = i from by omega]; exact List.getElem?_eq_getElem hi)
  rw [q.2.2.2]
  exact ev_ns (by omega)
def ev_sS (f f' : Nat → Int32) (n a d : Nat) : Prop :=
  (∀ i, i < d → f' (5 * n + (a + i)) = f (5 * n + (a + i + 1))) ∧ (∀ i, i < 5 * n + a ∨ 5 * n + (a + d) ≤ i → f' i = f i)
theorem ev_sSs {f k f' : Nat → Int32} {n a d : Nat} (h : ev_sS k f' n (a + 1) d) (e : k = upd f (5 * n + a) (f (5 * n + a + 1))) : ev_sS f f' n a (d + 1) := by
  subst e
  refine ⟨fun i hi => ?_, fun i hi => ?_⟩
  · by_cases c : i = 0
    · subst c
      rw [h.2 _ (by omega)]
      exact pk_us
    · obtain ⟨j, rfl⟩ : ∃ j, i = j + 1 := ⟨i - 1, by omega⟩
      have q := h.1 j (by omega)
      rw [show 5 * n + (a + (j + 1)) = 5 * n + (a + 1 + j) from by omega, q, pk_un (by omega), show a + 1 + j + 1 = a + (j + 1) + 1 from by omega]
  · rw [h.2 i (by omega)]; exact pk_un (by omega)
theorem ev_shut13 {post : SX → Prop} {n : Nat} (hn : n < 200) :
    ∀ (d a : Nat) (ks bl : Nat → Int32), a + d ≤ 4 → sz n = nI (a + d) → (∀ i, i < d → vp_nar .short (bl (5 * n + (a + i + 1))) = bl (5 * n + (a + i + 1))) →
    (∀ ks' bl', ev_sS ks ks' n a d → ev_sS bl bl' n a d → post (fb, sp, dp, kp, lg, ls, fd, mn, pc, us, it, ln, ks', bl', sz, lf, nx, pv, sr, rt, pa, wy, oa, ov, bg)) →
    wX_shut_13 post (nI n) fb sp dp kp lg ls fd mn (d + 1) (nI a) pc us it ln ks bl sz lf nx pv sr rt pa wy oa ov bg := by
  intro d
  induction d with
  | zero =>
    intro a ks bl had hsz _ H
    refine And.intro (vp_in_nI hn (by omega)) (br_t (by rw [nI_clamp (by omega), hsz]; exact nI_le (Nat.le_refl _) (by omega)) ?_)
    exact H ks bl ⟨fun i hi => absurd hi (Nat.not_lt_zero _), fun _ _ => rfl⟩ ⟨fun i hi => absurd hi (Nat.not_lt_zero _), fun _ _ => rfl⟩
  | succ d ih =>
    intro a ks bl had hsz hb H
    refine And.intro (vp_in_nI hn (by omega)) (br_f (by rw [nI_clamp (by omega), hsz]; exact nI_ge (by omega) (by omega)) ⟨ev_in5p (by omega), ev_in5 (by omega), fun k ek => ⟨ev_in5p (by omega), ev_in5 (by omega), fun b eb y ey => ?_⟩⟩)
    rw [ev_cl5 (by omega), ev_cl5p (by omega)] at ek eb
    rw [nI_1] at ey
    have q0 := hb 0 (by omega)
    rw [show 5 * n + (a + 0 + 1) = 5 * n + a + 1 from by omega] at q0
    rw [q0] at eb
    subst ey
    refine ih (a + 1) k b (by omega) (by rw [hsz]; exact congrArg nI (by omega)) (fun i hi => ?_) (fun k' b' o1 o2 => H k' b' (ev_sSs o1 ek) (ev_sSs o2 eb))
    rw [eb, pk_un (by omega)]
    have q := hb (i + 1) (by omega)
    rw [show a + (i + 1) + 1 = a + 1 + i + 1 from by omega] at q
    exact q
theorem ev_hp_shut {E : Nat → List (Nat × Nat)} {n : Nat} {e0 : Nat × Nat} {A B : List (Nat × Nat)} {ks' bl' : Nat → Int32} (h : ev_hp E ks bl sz) (hn : n < 200) (hE : E n = A ++ e0 :: B)
    (o1 : ev_sS ks ks' n A.length B.length) (o2 : ev_sS bl bl' n A.length B.length) :
    ev_hp (ev_u E n (A ++ B)) ks' bl' (upd sz n (nI (A.length + B.length))) := by
  have hlenE : (E n).length = A.length + B.length + 1 := by rw [hE]; simp; omega
  have h5 := (h n hn).1
  intro m hm
  by_cases e : m = n
  · subst e
    rw [ev_us, pk_us]
    have hlen : (A ++ B).length = A.length + B.length := by simp
    refine ⟨by omega, by rw [hlen], fun k e he => ?_⟩
    obtain ⟨_, _, h3⟩ := h m hm
    by_cases c1 : k < A.length
    · have he' : (E m)[k]? = some e := by
        rw [hE, List.getElem?_append_left c1]
        rwa [List.getElem?_append_left c1] at he
      have q := h3 k e he'
      rw [o1.2 _ (by omega), o2.2 _ (by omega)]
      exact q
    · rw [List.getElem?_append_right (by omega)] at he
      obtain ⟨i, rfl⟩ : ∃ i, k = A.length + i := ⟨k - A.length, by omega⟩
      rw [show A.length + i - A.length = i from by omega] at he
      have hi : i < B.length := (List.getElem?_eq_some_iff.mp he).1
      have he' : (E m)[A.length + i + 1]? = some e := by
        rw [hE, List.getElem?_append_right (by omega), show A.length + i + 1 - A.length = i + 1 from by omega, List.getElem?_cons_succ]
        exact he
      have q := h3 _ e he'
      rw [o1.1 i hi, o2.1 i hi]
      exact q
  · rw [ev_un e, pk_un e]
    obtain ⟨h1, h2, h3⟩ := h m hm
    refine ⟨h1, h2, fun k e' he => ?_⟩
    have hk5 : k < 5 := Nat.lt_of_lt_of_le (ev_hp_lt he) h1
    rw [o1.2 _ (by omega), o2.2 _ (by omega)]
    exact h3 k e' he
theorem ev_shut {post : SX → Prop} {E : Nat → List (Nat × Nat)} {n : Nat} {e0 : Nat × Nat} {A B : List (Nat × Nat)} (h : ev_hp E ks bl sz) (hn : n < 200) (hE : E n = A ++ e0 :: B)
    (H : ∀ ks' bl' sz', ev_hp (ev_u E n (A ++ B)) ks' bl' sz' → post (fb, sp, dp, kp, lg, ls, fd, mn, pc, us, it, ln, ks', bl', sz', lf, nx, pv, sr, rt, pa, wy, oa, ov, bg)) :
    wpX_shut post (fb, sp, dp, kp, lg, ls, fd, mn, pc, us, it, ln, ks, bl, sz, lf, nx, pv, sr, rt, pa, wy, oa, ov, bg) (nI n) (nI A.length) := by
  have hlenE : (E n).length = A.length + B.length + 1 := by rw [hE]; simp; omega
  obtain ⟨h1, h2, h3⟩ := h n hn
  refine And.intro (vp_in_nI hn (by omega)) (And.intro (vp_in_nI hn (by omega)) (fun z ez => Exists.intro (B.length + 1) ?_))
  rw [nI_clamp (by omega), h2, hlenE, nI_pred, ev_nbb (by omega)] at ez
  subst ez
  refine ev_shut13 hn B.length A.length ks bl (by omega) pk_us (fun i hi => ?_) (fun ks' bl' o1 o2 => H ks' bl' _ (ev_hp_shut h hn hE o1 o2))
  have q := h3 (A.length + i + 1) (B[i]'hi) (by rw [hE, List.getElem?_append_right (by omega), show A.length + i + 1 - A.length = i + 1 from by omega, List.getElem?_cons_succ]; exact List.getElem?_eq_getElem hi)
  rw [q.2.2.2]
  exact ev_ns (by omega)
end
end
section
/-! the walks of split and even over the heap of nodes -/
section
variable {fb sp dp kp lg ls fd mn : Int32} {pc us it ln ks bl sz lf nx pv sr rt pa wy oa ov bg : Nat → Int32}
theorem ev_hp_ext {E E' : Nat → List (Nat × Nat)} (h : ev_hp E ks bl sz) (e : ∀ n, n < 200 → E' n = E n) : ev_hp E' ks bl sz := by
  intro n hn
  rw [e n hn]
  exact h n hn
theorem ev_hp_take {E : Nat → List (Nat × Nat)} {n : Nat} {A B : List (Nat × Nat)} (h : ev_hp E ks bl sz) (hn : n < 200) (hE : E n = A ++ B) :
    ev_hp (ev_u E n A) ks bl (upd sz n (nI A.length)) := by
  intro m hm
  by_cases e : m = n
  · subst e
    rw [ev_us, pk_us]
    obtain ⟨h1, _, h3⟩ := h m hm
    rw [hE, List.length_append] at h1
    refine ⟨by omega, rfl, fun k e he => h3 k e ?_⟩
    rw [hE, List.getElem?_append_left (List.getElem?_eq_some_iff.mp he).1]
    exact he
  · rw [ev_un e, pk_un e]
    exact h m hm
theorem ev_hp_key {E : Nat → List (Nat × Nat)} {n k k' c : Nat} {A B : List (Nat × Nat)} (h : ev_hp E ks bl sz) (hn : n < 200) (hE : E n = A ++ (k, c) :: B) (hk : k' < 2 ^ 24) :
    ev_hp (ev_u E n (A ++ (k', c) :: B)) (upd ks (5 * n + A.length) (nI k')) bl sz := by
  have hlE : (E n).length = A.length + B.length + 1 := by rw [hE]; simp; omega
  intro m hm
  by_cases e : m = n
  · subst e
    rw [ev_us]
    obtain ⟨h1, h2, h3⟩ := h m hm
    have hl : (A ++ (k', c) :: B).length = (E m).length := by rw [hE]; simp
    refine ⟨by omega, by rw [hl]; exact h2, fun i e he => ?_⟩
    by_cases ci : i = A.length
    · subst ci
      rw [ev_mid] at he
      have he' : (k', c) = e := by simpa using he
      subst he'
      have q := h3 A.length (k, c) (by rw [hE]; exact ev_mid)
      exact ⟨hk, q.2.1, pk_us, q.2.2.2⟩
    · have he' : (E m)[i]? = some e := by
        rw [hE]
        by_cases c1 : i < A.length
        · rw [List.getElem?_append_left c1] at he ⊢; exact he
        · rw [List.getElem?_append_right (by omega)] at he ⊢
          obtain ⟨j, hj⟩ : ∃ j, i - A.length = j + 1 := ⟨i - A.length - 1, by omega⟩
          rw [hj, List.getElem?_cons_succ] at he ⊢
          exact he
      rw [pk_un (by omega)]
      exact h3 i e he'
  · rw [ev_un e]
    obtain ⟨h1, h2, h3⟩ := h m hm
    refine ⟨h1, h2, fun i e' he => ?_⟩
    have hk5 : i < 5 := Nat.lt_of_lt_of_le (ev_hp_lt he) h1
    have := (h n hn).1
    rw [pk_un (by omega)]
    exact h3 i e' he
/-- the links behind a split leaf -/
def ev_lS (nx pv nx' pv' : Nat → Int32) (n r : Nat) (o : Option Nat) : Prop :=
  nx' n = nI r ∧ nx' r = ev_o o ∧ (∀ m, m ≠ n → m ≠ r → nx' m = nx m) ∧ pv' r = nI n ∧ (∀ q, o = some q → pv' q = nI r) ∧ (∀ m, m ≠ r → o ≠ some m → pv' m = pv m)
theorem ev_i3 {n k : Nat} (h : n < 200) (hk : k < 2) : vp_in (5 * nI n + 3 + nI k) 1000 ∧ (5 * nI n + 3 + nI k).toNatClampNeg = 5 * n + (3 + k) := by
  have e : 5 * nI n + 3 + nI k = nI (5 * n + (3 + k)) := by
    show nI 5 * nI n + nI 3 + nI k = _
    rw [pk_mul, nI_add, nI_add, Nat.add_assoc]
  rw [e]
  exact ⟨vp_in_nI (by omega) (by omega), nI_clamp (by omega)⟩
theorem ev_split_end {post : Int32 → SX → Prop} {E : Nat → List (Nat × Nat)} {n r : Nat} {A B : List (Nat × Nat)} {o : Option Nat} {x3 : Int32} {w : Nat} (hA : A.length = 3) (hx : (2 : Int32) ≤ x3) (h : ev_hp E ks bl sz) (hn : n < 200) (hr : r < 200) (hrn : r ≠ n) (hE : E n = A ++ B)
    (hlf : lf n = 0 ∨ (lf n = 1 ∧ nx n = ev_o o ∧ ∀ q, o = some q → q < 200 ∧ q ≠ n ∧ q ≠ r))
    (H : ∀ sz' nx' pv', ev_hp (ev_u E n A) ks bl sz' → (lf n = 0 → ∀ m, m ≠ r → nx' m = nx m ∧ pv' m = pv m) → (lf n = 1 → ev_lS nx pv nx' pv' n r o) → post (nI r) (fb, sp, dp, kp, lg, ls, fd, mn, pc, us, it, ln, ks, bl, sz', lf, nx', pv', sr, rt, pa, wy, oa, ov, bg)) :
    wX_split_13 post (nI n) (nI r) (w + 1) x3 fb sp dp kp lg ls fd mn pc us it ln ks bl sz lf nx pv sr rt pa wy oa ov bg := by
  have hin : vp_in (nI n) 200 := vp_in_nI hn (by omega)
  have hir : vp_in (nI r) 200 := vp_in_nI hr (by omega)
  have cn : (nI n).toNatClampNeg = n := nI_clamp (by omega)
  have cr : (nI r).toNatClampNeg = r := nI_clamp (by omega)
  refine br_t hx ⟨hin, fun z ez => ⟨hin, ?_⟩⟩
  rw [cn, ev_nb3, ← hA] at ez
  have hz := ev_hp_take h hn hE
  rw [← ez] at hz
  rw [cn]
  rcases hlf with h0 | ⟨h1, hnx, ho⟩
  · refine br_t h0 (H z nx pv hz (fun _ m _ => ⟨rfl, rfl⟩) (fun h1 => ?_))
    rw [h0] at h1; exact absurd h1 (by decide)
  · have hne : ¬ lf n = 0 := by rw [h1]; decide
    refine br_f hne ⟨hin, hir, fun a ea => ⟨hir, fun b eb => ⟨hin, ?_⟩⟩⟩
    rw [cr, hnx] at ea
    rw [cr, ev_nss (by omega)] at eb
    have ean : a n = ev_o o := by rw [ea, pk_un (fun e => hrn e.symm), hnx]
    rw [ean]
    cases o with
    | none =>
      refine br_t (show (-1 : Int32) < 0 by decide) ⟨hin, fun g eg => H z g b hz (fun h0 => absurd h0 hne) (fun _ => ?_)⟩
      rw [cn, ev_nss (by omega)] at eg
      rw [ev_o_n] at ea
      refine ⟨by rw [eg, pk_us], by rw [eg, pk_un hrn, ea, pk_us], fun m m1 m2 => by rw [eg, pk_un m1, ea, pk_un m2], by rw [eb, pk_us], fun q hq => by simp at hq, fun m m1 _ => by rw [eb, pk_un m1]⟩
    | some q =>
      obtain ⟨q1, q2, q3⟩ := ho q rfl
      refine br_f (show ¬ nI q < 0 from nI_pos (by omega)) ⟨hin, vp_in_nI q1 (by omega), fun b' eb' => ⟨hin, fun g eg => H z g b' hz (fun h0 => absurd h0 hne) (fun _ => ?_)⟩⟩
      rw [cn, ev_nss (by omega)] at eg
      rw [ev_o_s q1] at ea
      rw [show (ev_o (some q)).toNatClampNeg = q from nI_clamp (by omega), ev_nss (by omega)] at eb'
      refine ⟨by rw [eg, pk_us], by rw [eg, pk_un hrn, ea, pk_us], fun m m1 m2 => by rw [eg, pk_un m1, ea, pk_un m2], by rw [eb', pk_un (fun e => q3 e.symm), eb, pk_us], fun q' hq => ?_, fun m m1 m2 => ?_⟩
      · have : q = q' := by simpa using hq
        subst this
        rw [eb', pk_us]
      · rw [eb', pk_un (fun e => m2 (by rw [e])), eb, pk_un m1]
theorem ev_split {post : Int32 → SX → Prop} {E : Nat → List (Nat × Nat)} {n c r : Nat} {e0 e1 e2 e3 e4 : Nat × Nat} {o : Option Nat} (h : ev_hp E ks bl sz) (hn : n < 200) (hE : E n = [e0, e1, e2, e3, e4]) (hc : c < 200) (hr : r < 200) (hrn : r ≠ n) (hsr : sr c = nI r)
    (hlf : lf n = 0 ∨ (lf n = 1 ∧ nx n = ev_o o ∧ ∀ q, o = some q → q < 200 ∧ q ≠ n ∧ q ≠ r))
    (H : ∀ ks' bl' sz' nx' pv', ev_hp (ev_u (ev_u E r [e3, e4]) n [e0, e1, e2]) ks' bl' sz' → (lf n = 0 → ∀ m, m ≠ r → nx' m = nx m ∧ pv' m = pv m) → (lf n = 1 → ev_lS nx pv nx' pv' n r o) → post (nI r) (fb, nI c, dp, kp, lg, ls, fd, mn, pc, us, it, ln, ks', bl', sz', upd lf r (lf n), nx', pv', sr, rt, pa, wy, oa, ov, bg)) :
    wpX_split post (fb, nI (c + 1), dp, kp, lg, ls, fd, mn, pc, us, it, ln, ks, bl, sz, lf, nx, pv, sr, rt, pa, wy, oa, ov, bg) (nI n) := by
  refine And.intro (vp_in_nI hn (by omega)) ?_
  rw [nI_clamp (show n < 2 ^ 31 by omega)]
  have hl : lf n = 0 ∨ lf n = 1 := hlf.imp id (fun z => z.1)
  refine ev_node hc hr hsr hl (Exists.intro 3 ?_)
  have h0 := ev_hp_node (r := r) h
  have nr : n ≠ r := fun e => hrn e.symm
  have hE0 : (ev_u E r []) n = [e0, e1, e2, e3, e4] := by rw [ev_un nr, hE]
  have q3 := (h0 n hn).2.2 3 e3 (by rw [hE0]; rfl)
  have q4 := (h0 n hn).2.2 4 e4 (by rw [hE0]; rfl)
  obtain ⟨i3, c3⟩ := ev_i3 (k := 0) hn (by omega)
  obtain ⟨i4, c4⟩ := ev_i3 (k := 1) hn (by omega)
  refine br_f (show ¬ (2 : Int32) ≤ 0 by decide) ⟨i3, i3, ?_⟩
  rw [show (5 * nI n + 3 + 0).toNatClampNeg = 5 * n + 3 from c3, q3.2.2.1, q3.2.2.2]
  refine ev_open (A := []) (B := []) h0 hr ev_us (by simp) q3.1 q3.2.1 (fun k1 b1 z1 h1 => ?_)
  intro y ey
  rw [show (0 : Int32) + 1 = nI 1 from rfl] at ey
  subst ey
  have hE1 : (ev_u (ev_u E r []) r ([] ++ [e3])) n = [e0, e1, e2, e3, e4] := by rw [ev_un nr, hE0]
  have p4 := (h1 n hn).2.2 4 e4 (by rw [hE1]; rfl)
  refine br_f (show ¬ (2 : Int32) ≤ nI 1 by decide) ⟨i4, i4, ?_⟩
  rw [c4, p4.2.2.1, p4.2.2.2]
  refine ev_open (A := [e3]) (B := []) h1 hr (by rw [ev_us]; rfl) (by simp) p4.1 p4.2.1 (fun k2 b2 z2 h2 => ?_)
  intro y ey
  rw [nI_1] at ey
  subst ey
  have hE2 : (ev_u (ev_u (ev_u E r []) r ([] ++ [e3])) r ([e3] ++ [e4])) n = [e0, e1, e2] ++ [e3, e4] := by rw [ev_un nr, hE1]; rfl
  refine ev_split_end (E := ev_u (ev_u (ev_u E r []) r ([] ++ [e3])) r ([e3] ++ [e4])) (A := [e0, e1, e2]) (B := [e3, e4]) (o := o) rfl (show (2 : Int32) ≤ nI 2 by decide) h2 hn hr hrn hE2 ?_ (fun z' n' p' hh a1 a2 => ?_)
  · rw [pk_un nr, pk_un nr]; exact hlf
  · rw [pk_un nr] at a1 a2
    refine H k2 b2 z' n' p' (ev_hp_ext hh (fun m _ => ?_)) (fun l0 m hm => ?_) (fun l1 => ?_)
    · by_cases em : m = n
      · rw [em, ev_us, ev_us]
      · rw [ev_un em, ev_un em]
        by_cases er : m = r
        · rw [er, ev_us, ev_us]; rfl
        · rw [ev_un er, ev_un er, ev_un er, ev_un er]
    · have := a1 l0 m hm
      rw [pk_un hm, pk_un hm] at this
      exact this
    · obtain ⟨b1', b2', b3, b4, b5, b6⟩ := a2 l1
      refine ⟨b1', b2', fun m m1 m2 => ?_, b4, b5, fun m m1 m2 => ?_⟩
      · rw [b3 m m1 m2, pk_un m2]
      · rw [b6 m m1 m2, pk_un m1]
end
end
section
/-! the walk of even over the heap of nodes: merge, a borrow from the left, a borrow from the right -/
section
variable {fb sp dp kp lg ls fd mn : Int32} {pc us it ln ks bl sz lf nx pv sr rt pa wy oa ov bg : Nat → Int32}
/-- the links behind a merge: a takes b's successor -/
def ev_lM (nx pv nx' pv' : Nat → Int32) (a : Nat) (o : Option Nat) : Prop :=
  nx' a = ev_o o ∧ (∀ m, m ≠ a → nx' m = nx m) ∧ (∀ q, o = some q → pv' q = nI a) ∧ (∀ m, o ≠ some m → pv' m = pv m)
theorem ev_even149 {post : SX → Prop} {E : Nat → List (Nat × Nat)} {up b c k1 k2 : Nat} {a : Nat} {C D : List (Nat × Nat)} (h : ev_hp E ks bl sz) (hu : up < 200) (hb : b < 200) (hc : c < 200) (hE : E up = C ++ (k1, a) :: (k2, b) :: D)
    (H : ∀ ks' bl' sz', ev_hp (ev_u E up (C ++ (k1, a) :: D)) ks' bl' sz' → post (fb, nI (c + 1), dp, kp, lg, ls, fd, mn, pc, us, it, ln, ks', bl', sz', lf, nx, pv, upd sr c (nI b), rt, pa, wy, oa, ov, bg)) :
    wX_even_149 post (nI up) (nI C.length) (nI b) fb (nI c) dp kp lg ls fd mn pc us it ln ks bl sz lf nx pv sr rt pa wy oa ov bg := by
  show wpX_shut _ _ (nI up) (nI C.length + 1)
  have e1 : nI C.length + 1 = nI (C ++ [(k1, a)]).length := by rw [nI_1, List.length_append]; rfl
  rw [e1]
  refine ev_shut (A := C ++ [(k1, a)]) (B := D) (e0 := (k2, b)) h hu (by rw [hE]; simp) (fun k' b' z' h' => ?_)
  intro s es
  refine ⟨vp_in_nI hc (by omega), fun g eg => ?_⟩
  rw [nI_1] at es
  rw [nI_clamp (by omega), ev_nss (by omega)] at eg
  rw [es, eg]
  refine H k' b' z' (ev_hp_ext h' (fun m _ => ?_))
  by_cases em : m = up
  · rw [em, ev_us, ev_us]; simp
  · rw [ev_un em, ev_un em]
theorem ev_even50 {post : SX → Prop} {up a b c k1 k2 : Nat} {C D A B : List (Nat × Nat)} {o : Option Nat} (hu : up < 200) (ha : a < 200) (hb : b < 200) (hc : c < 200) (hab : a ≠ b) (hau : a ≠ up) (hbu : b ≠ up) (hB : A.length + B.length < 5)
    (hlf : lf a = 0 ∨ (lf a = 1 ∧ nx b = ev_o o ∧ ∀ q, o = some q → q < 200 ∧ q ≠ b)) :
    ∀ (B2 B1 : List (Nat × Nat)) (E : Nat → List (Nat × Nat)) (ks bl sz : Nat → Int32), ev_hp E ks bl sz → E up = C ++ (k1, a) :: (k2, b) :: D → B = B1 ++ B2 → E b = B → E a = A ++ B1 →
    (∀ ks' bl' sz' nx' pv', ev_hp (ev_u (ev_u E a (A ++ B)) up (C ++ (k1, a) :: D)) ks' bl' sz' → (lf a = 0 → ∀ m, nx' m = nx m ∧ pv' m = pv m) → (lf a = 1 → ev_lM nx pv nx' pv' a o) → post (fb, nI (c + 1), dp, kp, lg, ls, fd, mn, pc, us, it, ln, ks', bl', sz', lf, nx', pv', upd sr c (nI b), rt, pa, wy, oa, ov, bg)) →
    wX_even_50 post (nI up) (nI C.length) (nI a) (nI b) (B2.length + 1) (nI B1.length) fb (nI c) dp kp lg ls fd mn pc us it ln ks bl sz lf nx pv sr rt pa wy oa ov bg := by
  have ca : (nI a).toNatClampNeg = a := nI_clamp (by omega)
  have cb : (nI b).toNatClampNeg = b := nI_clamp (by omega)
  have ia : vp_in (nI a) 200 := vp_in_nI ha (by omega)
  have ib : vp_in (nI b) 200 := vp_in_nI hb (by omega)
  intro B2
  induction B2 with
  | nil =>
    intro B1 E ks bl sz h hE eB hEb hEa H
    rw [List.append_nil] at eB
    subst eB
    refine And.intro ib ?_
    rw [cb]
    have q := (h b hb).2.1
    rw [hEb] at q
    refine br_t (by rw [q]; exact nI_le (Nat.le_refl _) (by omega)) ⟨ia, ?_⟩
    rw [ca]
    have hext : ∀ {k' b' z' : Nat → Int32}, ev_hp (ev_u E up (C ++ (k1, a) :: D)) k' b' z' → ev_hp (ev_u (ev_u E a (A ++ B)) up (C ++ (k1, a) :: D)) k' b' z' := by
      intro k' b' z' hh
      refine ev_hp_ext hh (fun m _ => ?_)
      by_cases em : m = up
      · rw [em, ev_us, ev_us]
      · rw [ev_un em, ev_un em]
        by_cases ea : m = a
        · rw [ea, ev_us, hEa]
        · rw [ev_un ea]
    rcases hlf with h0 | ⟨h1, hnx, ho⟩
    · refine br_t h0 (ev_even149 h hu hb hc hE (fun k' b' z' hh => ?_))
      refine H k' b' z' nx pv (hext hh) (fun _ m => ⟨rfl, rfl⟩) (fun h1 => ?_)
      rw [h0] at h1; exact absurd h1 (by decide)
    · have hne : ¬ lf a = 0 := by rw [h1]; decide
      refine br_f hne ⟨ib, ia, fun g eg => ⟨ib, ?_⟩⟩
      rw [hnx] at eg
      have egb : g b = ev_o o := by rw [eg, pk_un (fun e => hab e.symm), hnx]
      rw [egb]
      cases o with
      | none =>
        refine br_t (show (-1 : Int32) < 0 by decide) (ev_even149 h hu hb hc hE (fun k' b' z' hh => ?_))
        rw [ev_o_n] at eg
        refine H k' b' z' g pv (hext hh) (fun h0 => absurd h0 hne) (fun _ => ⟨by rw [eg, pk_us], fun m hm => by rw [eg, pk_un hm], fun q hq => by simp at hq, fun m _ => rfl⟩)
      | some q =>
        obtain ⟨q1, q2⟩ := ho q rfl
        refine br_f (show ¬ nI q < 0 from nI_pos (by omega)) ⟨ib, vp_in_nI q1 (by omega), fun p ep => ev_even149 h hu hb hc hE (fun k' b' z' hh => ?_)⟩
        rw [ev_o_s q1] at eg
        rw [show (ev_o (some q)).toNatClampNeg = q from nI_clamp (by omega), ev_nss (by omega)] at ep
        refine H k' b' z' g p (hext hh) (fun h0 => absurd h0 hne) (fun _ => ⟨by rw [eg, pk_us], fun m hm => by rw [eg, pk_un hm], fun q' hq => ?_, fun m hm => ?_⟩)
        · have : q = q' := by simpa using hq
          subst this
          rw [ep, pk_us]
        · rw [ep, pk_un (fun e => hm (by rw [e]))]
  | cons e B2 ih =>
    intro B1 E ks bl sz h hE eB hEb hEa H
    have hlen : B.length = B1.length + B2.length + 1 := by rw [eB]; simp; omega
    have q := (h b hb).2.1
    rw [hEb] at q
    refine And.intro ib ?_
    rw [cb]
    have he := (h b hb).2.2 B1.length e (by rw [hEb, eB]; exact ev_mid)
    refine br_f (by rw [q]; exact nI_ge (by omega) (by omega)) ⟨ia, ev_in5 (by omega), ev_in5 (by omega), ?_⟩
    rw [ca, ev_cl5 (by omega), he.2.2.1, he.2.2.2, (h a ha).2.1]
    refine ev_open (A := E a) (B := []) (key := e.1) (ch := e.2) h ha (by simp) (by rw [hEa]; simp; omega) he.1 he.2.1 (fun k' b' z' h' => ?_)
    intro y ey
    rw [nI_1] at ey
    subst ey
    have e2 : nI (B1.length + 1) = nI (B1 ++ [e]).length := by rw [List.length_append]; rfl
    rw [e2]
    refine ih (B1 ++ [e]) (ev_u E a (E a ++ [(e.1, e.2)])) k' b' z' h' (by rw [ev_un (fun z => hau z.symm)]; exact hE) (by rw [eB]; simp) (by rw [ev_un (fun z => hab z.symm)]; exact hEb) (by rw [ev_us, hEa, List.append_assoc]) (fun k'' b'' z'' n'' p'' hh l0 l1 => ?_)
    refine H k'' b'' z'' n'' p'' (ev_hp_ext hh (fun m _ => ?_)) l0 l1
    by_cases em : m = up
    · rw [em, ev_us, ev_us]
    · rw [ev_un em, ev_un em]
      by_cases ea : m = a
      · rw [ea, ev_us, ev_us]
      · rw [ev_un ea, ev_un ea, ev_un ea]
theorem ev_even_m {post : SX → Prop} {E : Nat → List (Nat × Nat)} {up a b c k1 k2 : Nat} {C D : List (Nat × Nat)} {o : Option Nat} (h : ev_hp E ks bl sz) (hu : up < 200) (hc : c < 200) (hE : E up = C ++ (k1, a) :: (k2, b) :: D) (hab : a ≠ b) (hau : a ≠ up) (hbu : b ≠ up) (hB : (E a).length + (E b).length < 5)
    (hlf : lf a = 0 ∨ (lf a = 1 ∧ nx b = ev_o o ∧ ∀ q, o = some q → q < 200 ∧ q ≠ b))
    (H : ∀ ks' bl' sz' nx' pv', ev_hp (ev_u (ev_u E a (E a ++ E b)) up (C ++ (k1, a) :: D)) ks' bl' sz' → (lf a = 0 → ∀ m, nx' m = nx m ∧ pv' m = pv m) → (lf a = 1 → ev_lM nx pv nx' pv' a o) → post (fb, nI (c + 1), dp, kp, lg, ls, fd, mn, pc, us, it, ln, ks', bl', sz', lf, nx', pv', upd sr c (nI b), rt, pa, wy, oa, ov, bg)) :
    wpX_even post (fb, nI c, dp, kp, lg, ls, fd, mn, pc, us, it, ln, ks, bl, sz, lf, nx, pv, sr, rt, pa, wy, oa, ov, bg) (nI up) (nI C.length) := by
  obtain ⟨u1, u2, u3⟩ := h up hu
  have hlE : (E up).length = C.length + D.length + 2 := by rw [hE]; simp; omega
  have qa := u3 C.length (k1, a) (by rw [hE]; exact ev_mid)
  have qb := u3 (C.length + 1) (k2, b) (by rw [hE, show C ++ (k1, a) :: (k2, b) :: D = (C ++ [(k1, a)]) ++ (k2, b) :: D from by simp, show C.length + 1 = (C ++ [(k1, a)]).length from by simp]; exact ev_mid)
  dsimp only at qa qb
  have ha : a < 200 := qa.2.1
  have hb : b < 200 := qb.2.1
  refine And.intro (ev_in5 (by omega)) (fun x3 e3 => ⟨ev_in5p (by omega), fun x4 e4 => ?_⟩)
  rw [ev_cl5 (by omega), qa.2.2.2] at e3
  rw [ev_cl5p (by omega), Nat.add_assoc, qb.2.2.2] at e4
  subst e3
  subst e4
  refine ⟨vp_in_nI ha (by omega), vp_in_nI hb (by omega), fun x5 e5 => ?_⟩
  rw [nI_clamp (by omega), nI_clamp (by omega), (h a ha).2.1, (h b hb).2.1, nI_add] at e5
  subst e5
  refine br_f (nI_ge (b := 5) hB (by omega)) (Exists.intro ((E b).length + 1) ?_)
  exact ev_even50 hu ha hb hc hab hau hbu hB hlf (E b) [] E ks bl sz h hE rfl rfl (by simp) H
theorem ev_even284 {post : SX → Prop} {E : Nat → List (Nat × Nat)} {up b k1 k2 : Nat} {a : Nat} {f : Nat × Nat} {C D B : List (Nat × Nat)} (h : ev_hp E ks bl sz) (hu : up < 200) (hb : b < 200) (hE : E up = C ++ (k1, a) :: (k2, b) :: D) (hEb : E b = f :: B)
    (H : ∀ ks', ev_hp (ev_u E up (C ++ (k1, a) :: (f.1, b) :: D)) ks' bl sz → post (fb, sp, dp, kp, lg, ls, fd, mn, pc, us, it, ln, ks', bl, sz, lf, nx, pv, sr, rt, pa, wy, oa, ov, bg)) :
    wX_even_284 post (nI up) (nI C.length) (nI b) fb sp dp kp lg ls fd mn pc us it ln ks bl sz lf nx pv sr rt pa wy oa ov bg := by
  obtain ⟨u1, u2, u3⟩ := h up hu
  have hlE : (E up).length = C.length + D.length + 2 := by rw [hE]; simp; omega
  have qf := (h b hb).2.2 0 f (by rw [hEb]; rfl)
  refine And.intro (ev_in50 (by omega)) ⟨ev_in5p (by omega), fun g eg => ?_⟩
  rw [ev_cl50 (by omega), ev_cl5p (by omega), show 5 * b = 5 * b + 0 from rfl, qf.2.2.1] at eg
  have hh := ev_hp_key (A := C ++ [(k1, a)]) (B := D) (k := k2) (c := b) h hu (by rw [hE]; simp) qf.1
  rw [show 5 * up + (C ++ [(k1, a)]).length = 5 * up + C.length + 1 from by simp; omega, ← eg] at hh
  refine H g (ev_hp_ext hh (fun m _ => ?_))
  by_cases em : m = up
  · rw [em, ev_us, ev_us]; simp
  · rw [ev_un em, ev_un em]
theorem ev_even_l {post : SX → Prop} {E : Nat → List (Nat × Nat)} {up a b k1 k2 : Nat} {e f : Nat × Nat} {B C D : List (Nat × Nat)} (h : ev_hp E ks bl sz) (hu : up < 200) (hE : E up = C ++ (k1, a) :: (k2, b) :: D) (hab : a ≠ b) (hau : a ≠ up) (hbu : b ≠ up) (hB : 5 ≤ (E a).length + (E b).length) (hl : (E a).length < (E b).length) (ha4 : (E a).length ≤ 4) (hEb : E b = e :: f :: B)
    (H : ∀ ks' bl' sz', ev_hp (ev_u (ev_u (ev_u E a (E a ++ [e])) b (f :: B)) up (C ++ (k1, a) :: (f.1, b) :: D)) ks' bl' sz' → post (fb, sp, dp, kp, lg, ls, fd, mn, pc, us, it, ln, ks', bl', sz', lf, nx, pv, sr, rt, pa, wy, oa, ov, bg)) :
    wpX_even post (fb, sp, dp, kp, lg, ls, fd, mn, pc, us, it, ln, ks, bl, sz, lf, nx, pv, sr, rt, pa, wy, oa, ov, bg) (nI up) (nI C.length) := by
  obtain ⟨u1, u2, u3⟩ := h up hu
  have hlE : (E up).length = C.length + D.length + 2 := by rw [hE]; simp; omega
  have qa := u3 C.length (k1, a) (by rw [hE]; exact ev_mid)
  have qb := u3 (C.length + 1) (k2, b) (by rw [hE, show C ++ (k1, a) :: (k2, b) :: D = (C ++ [(k1, a)]) ++ (k2, b) :: D from by simp, show C.length + 1 = (C ++ [(k1, a)]).length from by simp]; exact ev_mid)
  dsimp only at qa qb
  have ha : a < 200 := qa.2.1
  have hb : b < 200 := qb.2.1
  have ca : (nI a).toNatClampNeg = a := nI_clamp (by omega)
  have cb : (nI b).toNatClampNeg = b := nI_clamp (by omega)
  have ia : vp_in (nI a) 200 := vp_in_nI ha (by omega)
  have ib : vp_in (nI b) 200 := vp_in_nI hb (by omega)
  refine And.intro (ev_in5 (by omega)) (fun x3 e3 => ⟨ev_in5p (by omega), fun x4 e4 => ?_⟩)
  rw [ev_cl5 (by omega), qa.2.2.2] at e3
  rw [ev_cl5p (by omega), Nat.add_assoc, qb.2.2.2] at e4
  subst e3
  subst e4
  refine ⟨ia, ib, fun x5 e5 => ?_⟩
  have sa := (h a ha).2.1
  have sb := (h b hb).2.1
  rw [ca, cb, sa, sb, nI_add] at e5
  subst e5
  have h5b := (h b hb).1
  refine br_t (nI_le (a := 5) hB (by omega)) ⟨ia, ib, ?_⟩
  rw [ca, cb, sa, sb]
  have qe := (h b hb).2.2 0 e (by rw [hEb]; rfl)
  refine br_f (nI_ge hl (by omega)) ⟨ia, ev_in50 (by omega), ev_in50 (by omega), ?_⟩
  rw [ev_cl50 (by omega), show 5 * b = 5 * b + 0 from rfl, qe.2.2.1, qe.2.2.2]
  refine ev_open (A := E a) (B := []) (key := e.1) (ch := e.2) h ha (by simp) (by simpa using ha4) qe.1 qe.2.1 (fun k1' b1' z1' h1 => ?_)
  refine ev_shut (A := []) (B := f :: B) (e0 := e) h1 hb (by rw [ev_un (fun z => hab z.symm), hEb]; rfl) (fun k2' b2' z2' h2 => ?_)
  refine ev_even284 (f := f) (B := B) (k1 := k1) (k2 := k2) (a := a) (D := D) h2 hu hb (by rw [ev_un (fun z => hbu z.symm), ev_un (fun z => hau z.symm)]; exact hE) (by rw [ev_us]; rfl) (fun k3' h3 => ?_)
  exact H k3' b2' z2' h3
theorem ev_even_r {post : SX → Prop} {E : Nat → List (Nat × Nat)} {up a b k1 k2 : Nat} {e : Nat × Nat} {A C D : List (Nat × Nat)} (h : ev_hp E ks bl sz) (hu : up < 200) (hE : E up = C ++ (k1, a) :: (k2, b) :: D) (hab : a ≠ b) (hau : a ≠ up) (hbu : b ≠ up) (hB : 5 ≤ (E a).length + (E b).length) (hl : (E b).length ≤ (E a).length) (hb4 : (E b).length ≤ 4) (hEa : E a = A ++ [e])
    (H : ∀ ks' bl' sz', ev_hp (ev_u (ev_u (ev_u E b (e :: E b)) a A) up (C ++ (k1, a) :: (e.1, b) :: D)) ks' bl' sz' → post (fb, sp, dp, kp, lg, ls, fd, mn, pc, us, it, ln, ks', bl', sz', lf, nx, pv, sr, rt, pa, wy, oa, ov, bg)) :
    wpX_even post (fb, sp, dp, kp, lg, ls, fd, mn, pc, us, it, ln, ks, bl, sz, lf, nx, pv, sr, rt, pa, wy, oa, ov, bg) (nI up) (nI C.length) := by
  obtain ⟨u1, u2, u3⟩ := h up hu
  have hlE : (E up).length = C.length + D.length + 2 := by rw [hE]; simp; omega
  have qa := u3 C.length (k1, a) (by rw [hE]; exact ev_mid)
  have qb := u3 (C.length + 1) (k2, b) (by rw [hE, show C ++ (k1, a) :: (k2, b) :: D = (C ++ [(k1, a)]) ++ (k2, b) :: D from by simp, show C.length + 1 = (C ++ [(k1, a)]).length from by simp]; exact ev_mid)
  dsimp only at qa qb
  have ha : a < 200 := qa.2.1
  have hb : b < 200 := qb.2.1
  have ca : (nI a).toNatClampNeg = a := nI_clamp (by omega)
  have cb : (nI b).toNatClampNeg = b := nI_clamp (by omega)
  have ia : vp_in (nI a) 200 := vp_in_nI ha (by omega)
  have ib : vp_in (nI b) 200 := vp_in_nI hb (by omega)
  refine And.intro (ev_in5 (by omega)) (fun x3 e3 => ⟨ev_in5p (by omega), fun x4 e4 => ?_⟩)
  rw [ev_cl5 (by omega), qa.2.2.2] at e3
  rw [ev_cl5p (by omega), Nat.add_assoc, qb.2.2.2] at e4
  subst e3
  subst e4
  refine ⟨ia, ib, fun x5 e5 => ?_⟩
  have sa := (h a ha).2.1
  have sb := (h b hb).2.1
  rw [ca, cb, sa, sb, nI_add] at e5
  subst e5
  have h5a := (h a ha).1
  have hlA : (E a).length = A.length + 1 := by rw [hEa]; simp
  refine br_t (nI_le (a := 5) hB (by omega)) ⟨ia, ib, ?_⟩
  rw [ca, cb, sa, sb]
  have qe := (h a ha).2.2 A.length e (by rw [hEa]; exact ev_mid)
  rw [hlA]
  refine br_t (nI_le (by omega) (by omega)) ⟨ia, ev_in5m (by omega), ia, ev_in5m (by omega), ?_⟩
  rw [ev_cl5m (by omega), qe.2.2.1, qe.2.2.2]
  refine ev_open (A := []) (B := E b) (key := e.1) (ch := e.2) h hb rfl (by simpa using hb4) qe.1 qe.2.1 (fun k1' b1' z1' h1 => ?_)
  refine ⟨ia, ia, fun z ez => ?_⟩
  have hEa1 : (ev_u E b ([] ++ (e.1, e.2) :: E b)) a = A ++ [e] := by rw [ev_un hab, hEa]
  have sa1 := (h1 a ha).2.1
  rw [hEa1, List.length_append] at sa1
  rw [sa1, show A.length + [e].length = A.length + 1 from rfl, nI_pred, ev_nbb (by omega)] at ez
  have h2 := ev_hp_take h1 ha hEa1
  rw [← ez] at h2
  refine ev_even284 (f := e) (B := E b) (k1 := k1) (k2 := k2) (a := a) (D := D) h2 hu hb (by rw [ev_un (fun z => hau z.symm), ev_un (fun z => hbu z.symm)]; exact hE) (by rw [ev_un (fun z => hab z.symm), ev_us]; rfl) (fun k3' h3 => ?_)
  exact H k3' b1' z h3
end
end
section
/-! the tree by levels: L i holds the nodes of level i from left to right (0: the leaves); no program in sight -/
def ev_fk (E : Nat → List (Nat × Nat)) (n : Nat) : Nat := match E n with
  | [] => 0
  | e :: _ => e.1
def ev_R (E : Nat → List (Nat × Nat)) (e e' : Nat × Nat) : Prop :=
  (∀ y, y ∈ (E e.2).map Prod.fst → y < e'.1) ∧ (∀ y, y ∈ (E e'.2).map Prod.fst → e'.1 ≤ y)
def ev_sn (E : Nat → List (Nat × Nat)) (l : List Nat) : List Nat := (l.flatMap E).map Prod.snd
def ev_ts (E : Nat → List (Nat × Nat)) (h : Nat) (L : Nat → List Nat) (K : List Nat) : Prop :=
  (∃ r, L h = [r]) ∧
  (∀ i, i < h → ev_sn E (L (i + 1)) = L i) ∧
  (∀ i m e, 1 ≤ i → i < h → m ∈ L (i + 1) → e ∈ E m → e.1 = ev_fk E e.2) ∧
  (1 ≤ h → ((L 1).flatMap E).Pairwise (ev_R E)) ∧
  ((L 0).flatMap E).map Prod.fst = K ∧ K.Pairwise (· < ·)
def ev_sb (E : Nat → List (Nat × Nat)) (h : Nat) (L : Nat → List Nat) (x lo hi : Nat) : Prop :=
  ∀ i n, i ≤ h → n ∈ L i → (n ≠ x → (h = 0 ∨ 2 ≤ (E n).length) ∧ (E n).length ≤ 4) ∧ (n = x → (h = 0 ∨ lo ≤ (E n).length) ∧ (E n).length ≤ hi)
/-- no node twice, none on two levels -/
def ev_nd (h : Nat) (L : Nat → List Nat) : Prop :=
  (∀ i, i ≤ h → (L i).Nodup) ∧ (∀ i j n, i ≤ h → j ≤ h → n ∈ L i → n ∈ L j → i = j)
theorem ev_sn_app (E : Nat → List (Nat × Nat)) (P Q : List Nat) : ev_sn E (P ++ Q) = ev_sn E P ++ ev_sn E Q := by
  unfold ev_sn; rw [List.flatMap_append, List.map_append]
theorem ev_sn_cons (E : Nat → List (Nat × Nat)) (p : Nat) (Q : List Nat) : ev_sn E (p :: Q) = (E p).map Prod.snd ++ ev_sn E Q := by
  unfold ev_sn; rw [List.flatMap_cons, List.map_append]
theorem ev_sn_c {E E' : Nat → List (Nat × Nat)} {l : List Nat} (h : ∀ m, m ∈ l → E' m = E m) : ev_sn E' l = ev_sn E l := by
  unfold ev_sn; rw [ev_fmc h]
theorem ev_mem_sn {E : Nat → List (Nat × Nat)} {l : List Nat} {m : Nat} {e : Nat × Nat} (hm : m ∈ l) (he : e ∈ E m) : e.2 ∈ ev_sn E l :=
  List.mem_map_of_mem (List.mem_flatMap_of_mem hm he)
theorem ev_fk_c {E E' : Nat → List (Nat × Nat)} {m : Nat} (h : E' m = E m) : ev_fk E' m = ev_fk E m := by
  unfold ev_fk; rw [h]
theorem ev_R_c {E E' : Nat → List (Nat × Nat)} {a b : Nat × Nat} (ha : E' a.2 = E a.2) (hb : E' b.2 = E b.2) (h : ev_R E a b) : ev_R E' a b := by
  unfold ev_R; rw [ha, hb]; exact h
theorem ev_ts_child {E : Nat → List (Nat × Nat)} {h : Nat} {L : Nat → List Nat} {K : List Nat} (T : ev_ts E h L K) {i m : Nat} {e : Nat × Nat} (hi : i < h) (hm : m ∈ L (i + 1)) (he : e ∈ E m) : e.2 ∈ L i := by
  rw [← T.2.1 i hi]; exact ev_mem_sn hm he
/-- a tree is carried over to entries that agree on its nodes -/
theorem ev_ts_c {E E' : Nat → List (Nat × Nat)} {h : Nat} {L : Nat → List Nat} {K : List Nat} (T : ev_ts E h L K) (e : ∀ i m, i ≤ h → m ∈ L i → E' m = E m) : ev_ts E' h L K := by
  refine ⟨T.1, fun i hi => ?_, fun i m f h1 hi hm hf => ?_, fun h1 => ?_, ?_, T.2.2.2.2.2⟩
  · rw [ev_sn_c (fun m hm => e (i + 1) m (by omega) hm)]; exact T.2.1 i hi
  · rw [e (i + 1) m (by omega) hm] at hf
    rw [ev_fk_c (e i f.2 (by omega) (ev_ts_child T hi hm hf))]
    exact T.2.2.1 i m f h1 hi hm hf
  · rw [ev_fmc (fun m hm => e 1 m h1 hm)]
    refine (T.2.2.2.1 h1).imp_of_mem (fun {a b} ha hb r => ?_)
    obtain ⟨m, hm, ha'⟩ := List.mem_flatMap.mp ha
    obtain ⟨m2, hm2, hb'⟩ := List.mem_flatMap.mp hb
    exact ev_R_c (e 0 _ (by omega) (ev_ts_child T (i := 0) (by omega) hm ha')) (e 0 _ (by omega) (ev_ts_child T (i := 0) (by omega) hm2 hb')) r
  · rw [ev_fmc (fun m hm => e 0 m (by omega) hm)]; exact T.2.2.2.2.1
theorem ev_sb_c {E E' : Nat → List (Nat × Nat)} {h : Nat} {L : Nat → List Nat} {x lo hi : Nat} (S : ev_sb E h L x lo hi) (e : ∀ i m, i ≤ h → m ∈ L i → E' m = E m) : ev_sb E' h L x lo hi := by
  intro i n hi hn
  rw [e i n hi hn]
  exact S i n hi hn
theorem ev_fm3 {α β : Type} (f : α → List β) (X M Y : List α) : (X ++ M ++ Y).flatMap f = X.flatMap f ++ M.flatMap f ++ Y.flatMap f := by
  rw [List.flatMap_append, List.flatMap_append]
/-- THE STEP: a block M of a parent p's entries is replaced by M', the entries below staying the same row -/
theorem ev_lr {E E' : Nat → List (Nat × Nat)} {h : Nat} {L : Nat → List Nat} {K : List Nat} {i p s0 n0 : Nat} {P Q : List Nat} {C D M M' M1 M1' : List (Nat × Nat)}
    (T : ev_ts E h L K) (N : ev_nd h L) (hi : i < h) (hL : L (i + 1) = P ++ p :: Q) (hp : E p = C ++ M ++ D) (hp' : E' p = C ++ M' ++ D)
    (hE' : ∀ m, m ≠ p → m ∉ M.map Prod.snd → m ∉ M'.map Prod.snd → E' m = E m)
    (hM' : ∀ m, m ∈ M'.map Prod.snd → m ∈ M.map Prod.snd ∨ ∀ j, j ≤ h → m ∉ L j)
    (hfl : (M'.map Prod.snd).flatMap E' = (M.map Prod.snd).flatMap E)
    (hM : M = (s0, n0) :: M1) (hM1 : M' = (s0, n0) :: M1') (hne : E n0 ≠ [])
    (hf0 : ev_fk E' n0 = ev_fk E n0) (hfM : 1 ≤ i → ∀ e, e ∈ M1' → e.1 = ev_fk E' e.2)
    (hS : i = 0 → M'.Pairwise (ev_R E') ∧ ∀ e, e ∈ M1' → ∃ y, y ∈ ((M.map Prod.snd).flatMap E).map Prod.fst ∧ y ≤ e.1) :
    L i = ev_sn E P ++ (C ++ M ++ D).map Prod.snd ++ ev_sn E Q ∧
    ev_ts E' h (ev_u L i (ev_sn E P ++ (C ++ M' ++ D).map Prod.snd ++ ev_sn E Q)) K := by
  have hLi : L i = ev_sn E P ++ (C ++ M ++ D).map Prod.snd ++ ev_sn E Q := by
    rw [← T.2.1 i hi, hL, ev_sn_app, ev_sn_cons, hp]; simp
  refine ⟨hLi, ?_⟩
  -- nodes that stay as they are
  have hpL : p ∈ L (i + 1) := by rw [hL]; simp
  have hML : ∀ m, m ∈ M.map Prod.snd → m ∈ L i := by
    intro m hm
    rw [hLi]
    simp only [List.map_append, List.mem_append]
    exact Or.inl (Or.inr (Or.inl (Or.inr hm)))
  have keep : ∀ j m, j ≤ h → m ∈ L j → m ≠ p → m ∉ M.map Prod.snd → E' m = E m := by
    intro j m hj hm h1 h2
    refine hE' m h1 h2 (fun h3 => ?_)
    rcases hM' m h3 with h4 | h4
    · exact h2 h4
    · exact h4 j hj hm
  have keepj : ∀ j m, j ≤ h → j ≠ i → j ≠ i + 1 → m ∈ L j → E' m = E m := by
    intro j m hj h1 h2 hm
    refine keep j m hj hm (fun e => ?_) (fun e => ?_)
    · exact h2 (N.2 j (i + 1) m hj (by omega) hm (by rw [e]; exact hpL))
    · exact h1 (N.2 j i m hj (by omega) hm (hML m e))
  have nd1 := N.1 (i + 1) (by omega)
  rw [hL, List.nodup_append] at nd1
  have keepP : ∀ m, m ∈ P → E' m = E m := by
    intro m hm
    have hmL : m ∈ L (i + 1) := by rw [hL]; simp [hm]
    refine keep (i + 1) m (by omega) hmL (fun e => ?_) (fun e => ?_)
    · exact nd1.2.2 m hm p (by simp) e
    · have := N.2 (i + 1) i m (by omega) (by omega) hmL (hML m e); omega
  have keepQ : ∀ m, m ∈ Q → E' m = E m := by
    intro m hm
    have hmL : m ∈ L (i + 1) := by rw [hL]; simp [hm]
    refine keep (i + 1) m (by omega) hmL (fun e => ?_) (fun e => ?_)
    · exact (List.nodup_cons.mp nd1.2.1).1 (by rw [← e]; exact hm)
    · have := N.2 (i + 1) i m (by omega) (by omega) hmL (hML m e); omega
  have nd0 := N.1 i (by omega)
  rw [hLi] at nd0
  simp only [List.map_append, List.append_assoc] at nd0
  -- X and Y: the entries of level i + 1 ahead of the block and behind it
  have ndX : ∀ m, m ∈ ev_sn E P ++ C.map Prod.snd → m ∉ M.map Prod.snd := by
    intro m hm hm'
    rw [← List.append_assoc, List.nodup_append] at nd0
    exact nd0.2.2 m hm m (by simp only [List.mem_append]; exact Or.inl hm') rfl
  have ndY : ∀ m, m ∈ D.map Prod.snd ++ ev_sn E Q → m ∉ M.map Prod.snd := by
    intro m hm hm'
    rw [← List.append_assoc, ← List.append_assoc, List.nodup_append] at nd0
    exact nd0.2.2 m (by simp only [List.mem_append]; exact Or.inr hm') m hm rfl
  have inX : ∀ m, m ∈ ev_sn E P ++ C.map Prod.snd → m ∈ L i := by
    intro m hm
    rw [hLi]
    simp only [List.map_append, List.mem_append] at hm ⊢
    rcases hm with a | a
    · exact Or.inl (Or.inl a)
    · exact Or.inl (Or.inr (Or.inl (Or.inl a)))
  have inY : ∀ m, m ∈ D.map Prod.snd ++ ev_sn E Q → m ∈ L i := by
    intro m hm
    rw [hLi]
    simp only [List.map_append, List.mem_append] at hm ⊢
    rcases hm with a | a
    · exact Or.inl (Or.inr (Or.inr a))
    · exact Or.inr a
  have neP : ∀ m, m ∈ L i → m ≠ p := by
    intro m hm e
    have := N.2 i (i + 1) m (by omega) (by omega) hm (by rw [e]; exact hpL)
    omega
  have keepX : ∀ m, m ∈ ev_sn E P ++ C.map Prod.snd → E' m = E m := fun m hm => keep i m (by omega) (inX m hm) (neP m (inX m hm)) (ndX m hm)
  have keepY : ∀ m, m ∈ D.map Prod.snd ++ ev_sn E Q → E' m = E m := fun m hm => keep i m (by omega) (inY m hm) (neP m (inY m hm)) (ndY m hm)
  have row : (ev_sn E P ++ (C ++ M' ++ D).map Prod.snd ++ ev_sn E Q).flatMap E' = (L i).flatMap E := by
    rw [hLi]
    have e1 : ev_sn E P ++ (C ++ M' ++ D).map Prod.snd ++ ev_sn E Q = (ev_sn E P ++ C.map Prod.snd) ++ M'.map Prod.snd ++ (D.map Prod.snd ++ ev_sn E Q) := by simp
    have e2 : ev_sn E P ++ (C ++ M ++ D).map Prod.snd ++ ev_sn E Q = (ev_sn E P ++ C.map Prod.snd) ++ M.map Prod.snd ++ (D.map Prod.snd ++ ev_sn E Q) := by simp
    rw [e1, e2, ev_fm3, ev_fm3, hfl, ev_fmc keepX, ev_fmc keepY]
  have rowj : ∀ j, j ≤ h → j ≠ i + 1 → ((ev_u L i (ev_sn E P ++ (C ++ M' ++ D).map Prod.snd ++ ev_sn E Q)) j).flatMap E' = (L j).flatMap E := by
    intro j hj h1
    by_cases c : j = i
    · subst c; rw [ev_us]; exact row
    · rw [ev_un c]; exact ev_fmc (fun m hm => keepj j m hj c h1 hm)
  have up : ((ev_u L i (ev_sn E P ++ (C ++ M' ++ D).map Prod.snd ++ ev_sn E Q)) (i + 1)).flatMap E' = (P.flatMap E ++ C) ++ (M' ++ (D ++ Q.flatMap E)) := by
    rw [ev_un (by omega), hL, List.flatMap_append, List.flatMap_cons, hp', ev_fmc keepP, ev_fmc keepQ]
    simp
  have up0 : (L (i + 1)).flatMap E = (P.flatMap E ++ C) ++ (M ++ (D ++ Q.flatMap E)) := by
    rw [hL, List.flatMap_append, List.flatMap_cons, hp]
    simp
  have fkp : ev_fk E' p = ev_fk E p := by
    unfold ev_fk
    rw [hp, hp', hM, hM1]
    cases C <;> rfl
  have fkL : ∀ j m, j ≤ h → m ∈ L j → m ∉ M1.map Prod.snd → ev_fk E' m = ev_fk E m := by
    intro j m hj hm h1
    by_cases c : m = p
    · rw [c]; exact fkp
    · by_cases c2 : m = n0
      · rw [c2]; exact hf0
      · refine ev_fk_c (keep j m hj hm c (fun h2 => ?_))
        rw [hM] at h2
        simp only [List.map_cons, List.mem_cons] at h2
        rcases h2 with h2 | h2
        · exact c2 h2
        · exact h1 h2
  have MM1 : ∀ m, m ∈ M1.map Prod.snd → m ∈ M.map Prod.snd := by
    intro m hm
    rw [hM]; simp only [List.map_cons, List.mem_cons]; exact Or.inr hm
  refine ⟨?_, fun j hj => ?_, fun j m e h1 hj hm he => ?_, fun h1 => ?_, ?_, T.2.2.2.2.2⟩
  · rw [ev_un (by omega)]; exact T.1
  · by_cases c : j = i
    · subst c
      rw [ev_us]
      show ((ev_u L j _ (j + 1)).flatMap E').map Prod.snd = _
      rw [up]
      simp [ev_sn]
    · show ((ev_u L i _ (j + 1)).flatMap E').map Prod.snd = _
      rw [rowj (j + 1) (by omega) (by omega), ev_un c]
      exact T.2.1 j hj
  · -- the keys of inner entries are their children's first keys
    have key : ∀ e, e ∈ (ev_u L i (ev_sn E P ++ (C ++ M' ++ D).map Prod.snd ++ ev_sn E Q) (j + 1)).flatMap E' → e.1 = ev_fk E' e.2 := by
      intro e he
      by_cases c : j = i
      · subst c
        rw [up] at he
        have old : ∀ e, e ∈ (L (j + 1)).flatMap E → e.2 ∉ M1.map Prod.snd → e.1 = ev_fk E' e.2 := by
          intro e he hn
          obtain ⟨m, hm, hem⟩ := List.mem_flatMap.mp he
          rw [fkL j e.2 (by omega) (ev_ts_child T hj hm hem) hn]
          exact T.2.2.1 j m e h1 hj hm hem
        rcases List.mem_append.mp he with a | a
        · refine old e (by rw [up0]; exact List.mem_append.mpr (Or.inl a)) (fun h2 => ?_)
          refine ndX e.2 ?_ (MM1 _ h2)
          rcases List.mem_append.mp a with b | b
          · exact List.mem_append.mpr (Or.inl (List.mem_map_of_mem b))
          · exact List.mem_append.mpr (Or.inr (List.mem_map_of_mem b))
        · rcases List.mem_append.mp a with b | b
          · rw [hM1] at b
            rcases List.mem_cons.mp b with b | b
            · subst b
              show s0 = ev_fk E' n0
              rw [hf0]
              have hin : (s0, n0) ∈ E p := by rw [hp, hM]; simp
              exact T.2.2.1 j p (s0, n0) h1 hj hpL hin
            · exact hfM h1 e b
          · refine old e (by rw [up0]; exact List.mem_append.mpr (Or.inr (List.mem_append.mpr (Or.inr b)))) (fun h2 => ?_)
            refine ndY e.2 ?_ (MM1 _ h2)
            rcases List.mem_append.mp b with b | b
            · exact List.mem_append.mpr (Or.inl (List.mem_map_of_mem b))
            · exact List.mem_append.mpr (Or.inr (List.mem_map_of_mem b))
      · rw [rowj (j + 1) (by omega) (by omega)] at he
        obtain ⟨m, hm, hem⟩ := List.mem_flatMap.mp he
        have hc := ev_ts_child T hj hm hem
        rw [fkL j e.2 (by omega) hc (fun h2 => c (N.2 j i e.2 (by omega) (by omega) hc (hML _ (MM1 _ h2))))]
        exact T.2.2.1 j m e h1 hj hm hem
    exact key e (List.mem_flatMap_of_mem hm he)
  · -- the separators
    by_cases c : i = 0
    · subst c
      rw [up]
      have old := T.2.2.2.1 h1
      rw [up0] at old
      rw [List.pairwise_append] at old
      obtain ⟨oX, oMY, oXMY⟩ := old
      rw [List.pairwise_append] at oMY
      obtain ⟨oM, oY, oMYr⟩ := oMY
      obtain ⟨hS1, hS2⟩ := hS rfl
      have kX : ∀ e, e ∈ P.flatMap E ++ C → E' e.2 = E e.2 := by
        intro e he
        refine keepX e.2 ?_
        rcases List.mem_append.mp he with b | b
        · exact List.mem_append.mpr (Or.inl (List.mem_map_of_mem b))
        · exact List.mem_append.mpr (Or.inr (List.mem_map_of_mem b))
      have kY : ∀ e, e ∈ D ++ Q.flatMap E → E' e.2 = E e.2 := by
        intro e he
        refine keepY e.2 ?_
        rcases List.mem_append.mp he with b | b
        · exact List.mem_append.mpr (Or.inl (List.mem_map_of_mem b))
        · exact List.mem_append.mpr (Or.inr (List.mem_map_of_mem b))
      -- keys of the new block are keys of the old one
      have sub : ∀ e, e ∈ M' → ∀ y, y ∈ (E' e.2).map Prod.fst → ∃ f, f ∈ M ∧ y ∈ (E f.2).map Prod.fst := by
        intro e he y hy
        obtain ⟨g, hg, rfl⟩ := List.mem_map.mp hy
        have : g ∈ (M'.map Prod.snd).flatMap E' := List.mem_flatMap_of_mem (List.mem_map_of_mem he) hg
        rw [hfl] at this
        obtain ⟨m, hm, hgm⟩ := List.mem_flatMap.mp this
        obtain ⟨f, hf, rfl⟩ := List.mem_map.mp hm
        exact ⟨f, hf, List.mem_map_of_mem hgm⟩
      -- behind something every key of the block is at least s0
      have low : ∀ x, x ∈ P.flatMap E ++ C → ∀ f, f ∈ M → ∀ y, y ∈ (E f.2).map Prod.fst → s0 ≤ y := by
        intro x hx f hf y hy
        have rx0 := oXMY x hx (s0, n0) (List.mem_append.mpr (Or.inl (by rw [hM]; simp)))
        rw [hM] at hf
        rcases List.mem_cons.mp hf with hf' | hf'
        · subst hf'; exact rx0.2 y hy
        · rw [hM] at oM
          have r0 := (List.pairwise_cons.mp oM).1 f hf'
          cases hn : E n0 with
          | nil => exact absurd hn hne
          | cons g gs =>
            have hg : g.1 ∈ (E n0).map Prod.fst := by rw [hn]; simp
            have a1 := rx0.2 g.1 hg
            have a2 := r0.1 g.1 hg
            have a3 := r0.2 y hy
            have a1' : s0 ≤ g.1 := a1
            omega
      rw [List.pairwise_append]
      refine ⟨oX.imp_of_mem (fun {a b} ha hb r => ev_R_c (kX a ha) (kX b hb) r), ?_, ?_⟩
      · rw [List.pairwise_append]
        refine ⟨hS1, oY.imp_of_mem (fun {a b} ha hb r => ev_R_c (kY a ha) (kY b hb) r), fun e he b hb => ⟨fun y hy => ?_, fun y hy => ?_⟩⟩
        · obtain ⟨f, hf, hy'⟩ := sub e he y hy
          exact (oMYr f hf b hb).1 y hy'
        · rw [kY b hb] at hy
          exact (oMYr (s0, n0) (by rw [hM]; simp) b hb).2 y hy
      · intro x hx b hb
        rcases List.mem_append.mp hb with hb | hb
        · refine ⟨fun y hy => ?_, fun y hy => ?_⟩
          · rw [kX x hx] at hy
            rw [hM1] at hb
            rcases List.mem_cons.mp hb with hb' | hb'
            · subst hb'
              exact (oXMY x hx (s0, n0) (List.mem_append.mpr (Or.inl (by rw [hM]; simp)))).1 y hy
            · obtain ⟨y0, hy0, hle⟩ := hS2 b hb'
              obtain ⟨g, hg, rfl⟩ := List.mem_map.mp hy0
              obtain ⟨m, hm, hgm⟩ := List.mem_flatMap.mp hg
              obtain ⟨f, hf, rfl⟩ := List.mem_map.mp hm
              have r := oXMY x hx f (List.mem_append.mpr (Or.inl hf))
              have a1 := r.1 y hy
              have a2 := r.2 g.1 (List.mem_map_of_mem hgm)
              omega
          · have hb0 := hb
            rw [hM1] at hb
            rcases List.mem_cons.mp hb with hb' | hb'
            · obtain ⟨f, hf, hy'⟩ := sub b hb0 y hy
              have := low x hx f hf y hy'
              rw [hb']; exact this
            · rw [hM1] at hS1
              exact ((List.pairwise_cons.mp hS1).1 b hb').2 y hy
        · exact ev_R_c (kX x hx) (kY b hb) (oXMY x hx b (List.mem_append.mpr (Or.inr hb)))
    · rw [rowj 1 h1 (by omega)]
      refine (T.2.2.2.1 h1).imp_of_mem (fun {a b} ha hb r => ?_)
      obtain ⟨m, hm, ha'⟩ := List.mem_flatMap.mp ha
      obtain ⟨m2, hm2, hb'⟩ := List.mem_flatMap.mp hb
      exact ev_R_c (keepj 0 _ (by omega) (by omega) (by omega) (ev_ts_child T (i := 0) (by omega) hm ha')) (keepj 0 _ (by omega) (by omega) (by omega) (ev_ts_child T (i := 0) (by omega) hm2 hb')) r
  · rw [rowj 0 (by omega) (by omega)]; exact T.2.2.2.2.1
end
section
/-! the tree by levels: growth, collapse, leaves, the search, counts -/
theorem ev_grow {E : Nat → List (Nat × Nat)} {h : Nat} {L : Nat → List Nat} {K : List Nat} {n p k : Nat} (T : ev_ts E h L K) (hr : L h = [n]) (hk : 1 ≤ h → k = ev_fk E n) (hp : ∀ j, j ≤ h → p ∉ L j) :
    ev_ts (ev_u E p [(k, n)]) (h + 1) (ev_u L (h + 1) [p]) K := by
  have ag : ∀ j m, j ≤ h → m ∈ L j → (ev_u E p [(k, n)]) m = E m := fun j m hj hm => ev_un (fun e => hp j hj (by rw [← e]; exact hm))
  have T' := ev_ts_c T ag
  have nn : n ∈ L h := by rw [hr]; simp
  refine ⟨⟨p, ev_us⟩, fun i hi => ?_, fun i m e h1 hi hm he => ?_, fun h1 => ?_, ?_, T.2.2.2.2.2⟩
  · by_cases c : i = h
    · subst c
      rw [ev_us, ev_un (by omega), hr, ev_sn_cons, ev_us]; rfl
    · rw [ev_un (by omega), ev_un (by omega)]; exact T'.2.1 i (by omega)
  · by_cases c : i = h
    · subst c
      rw [ev_us] at hm
      have hm' : m = p := by simpa using hm
      subst hm'
      rw [ev_us] at he
      have he' : e = (k, n) := by simpa using he
      subst he'
      show k = ev_fk _ n
      rw [ev_fk_c (ag i n (by omega) nn)]
      exact hk h1
    · rw [ev_un (by omega)] at hm
      exact T'.2.2.1 i m e h1 (by omega) hm he
  · by_cases c : h = 0
    · subst c
      rw [show (1 : Nat) = 0 + 1 from rfl, ev_us]
      simp [ev_us]
    · rw [ev_un (by omega)]; exact T'.2.2.2.1 (by omega)
  · rw [ev_un (by omega)]; exact T'.2.2.2.2.1
theorem ev_collapse {E : Nat → List (Nat × Nat)} {h : Nat} {L : Nat → List Nat} {K : List Nat} {n p k : Nat} (T : ev_ts E (h + 1) L K) (hr : L (h + 1) = [p]) (hE : E p = [(k, n)]) : ev_ts E h L K ∧ L h = [n] := by
  have e : L h = [n] := by
    rw [← T.2.1 h (by omega), hr, ev_sn_cons, hE]; rfl
  exact ⟨⟨⟨n, e⟩, fun i hi => T.2.1 i (by omega), fun i m f h1 hi => T.2.2.1 i m f h1 (by omega), fun h1 => T.2.2.2.1 (by omega), T.2.2.2.2⟩, e⟩
theorem ev_L1nd {E : Nat → List (Nat × Nat)} {h : Nat} {L : Nat → List Nat} {K : List Nat} {X Y : List (Nat × Nat)} {s n : Nat} (T : ev_ts E h L K) (N : ev_nd h L) (h1 : 1 ≤ h) (hX : (L 1).flatMap E = X ++ (s, n) :: Y) :
    L 0 = X.map Prod.snd ++ n :: Y.map Prod.snd ∧ (∀ z, z ∈ X → z.2 ≠ n) ∧ (∀ z, z ∈ Y → z.2 ≠ n) := by
  have e : L 0 = X.map Prod.snd ++ n :: Y.map Prod.snd := by
    rw [← T.2.1 0 (by omega)]
    show ((L 1).flatMap E).map Prod.snd = _
    rw [hX]; simp
  have nd := N.1 0 (by omega)
  rw [e, List.nodup_append] at nd
  refine ⟨e, fun z hz e2 => ?_, fun z hz e2 => ?_⟩
  · exact nd.2.2 z.2 (List.mem_map_of_mem hz) n (by simp) e2
  · exact (List.nodup_cons.mp nd.2.1).1 (by rw [← e2]; exact List.mem_map_of_mem hz)
theorem ev_lins {E : Nat → List (Nat × Nat)} {h : Nat} {L : Nat → List Nat} {K : List Nat} {A B : List Nat} {n key v : Nat} {C D : List (Nat × Nat)} (T : ev_ts E h L K) (N : ev_nd h L) (hL : L 0 = A ++ n :: B) (hE : E n = C ++ D)
    (hsep : 1 ≤ h → ∃ X s Y, (L 1).flatMap E = X ++ (s, n) :: Y ∧ (X = [] ∨ s ≤ key) ∧ ∀ y, y ∈ Y → key < y.1)
    (hs : (((A.flatMap E).map Prod.fst ++ C.map Prod.fst) ++ key :: (D.map Prod.fst ++ (B.flatMap E).map Prod.fst)).Pairwise (· < ·)) :
    ev_ts (ev_u E n (C ++ (key, v) :: D)) h L (((A.flatMap E).map Prod.fst ++ C.map Prod.fst) ++ key :: (D.map Prod.fst ++ (B.flatMap E).map Prod.fst)) := by
  have hn0 : n ∈ L 0 := by rw [hL]; simp
  have ag : ∀ j m, j ≤ h → 1 ≤ j → m ∈ L j → (ev_u E n (C ++ (key, v) :: D)) m = E m := by
    intro j m hj h1 hm
    refine ev_un (fun e => ?_)
    have := N.2 j 0 m hj (by omega) hm (by rw [e]; exact hn0)
    omega
  have nd := N.1 0 (by omega)
  rw [hL, List.nodup_append] at nd
  refine ⟨T.1, fun i hi => ?_, fun i m e h1 hi hm he => ?_, fun h1 => ?_, ?_, hs⟩
  · rw [ev_sn_c (fun m hm => ag (i + 1) m (by omega) (by omega) hm)]; exact T.2.1 i hi
  · rw [ag (i + 1) m (by omega) (by omega) hm] at he
    rw [ev_fk_c (ag i e.2 (by omega) h1 (ev_ts_child T hi hm he))]
    exact T.2.2.1 i m e h1 hi hm he
  · obtain ⟨X, s, Y, hX, hlo, hhi⟩ := hsep h1
    rw [ev_fmc (fun m hm => ag 1 m h1 (by omega) hm), hX]
    have old := T.2.2.2.1 h1
    rw [hX] at old
    obtain ⟨_, nX, nY⟩ := ev_L1nd T N h1 hX
    rw [List.pairwise_append] at old ⊢
    obtain ⟨o1, o2, o3⟩ := old
    rw [List.pairwise_cons] at o2 ⊢
    refine ⟨o1.imp_of_mem (fun {a b} ha hb r => ev_R_c (ev_un (nX a ha)) (ev_un (nX b hb)) r), ⟨fun b hb => ?_, o2.2.imp_of_mem (fun {a b} ha hb r => ev_R_c (ev_un (nY a ha)) (ev_un (nY b hb)) r)⟩, fun x hx b hb => ?_⟩
    · have r := o2.1 b hb
      refine ⟨fun y hy => ?_, fun y hy => ?_⟩
      · rw [show (ev_u E n (C ++ (key, v) :: D)) (s, n).2 = C ++ (key, v) :: D from ev_us] at hy
        simp only [List.map_append, List.map_cons, List.mem_append, List.mem_cons] at hy
        have hold : ∀ y, y ∈ C.map Prod.fst ∨ y ∈ D.map Prod.fst → y < b.1 := by
          intro y hy
          refine r.1 y ?_
          show y ∈ (E n).map Prod.fst
          rw [hE, List.map_append]
          exact List.mem_append.mpr hy
        rcases hy with hy | hy | hy
        · exact hold y (Or.inl hy)
        · rw [hy]; exact hhi b hb
        · exact hold y (Or.inr hy)
      · rw [ev_un (nY b hb)] at hy
        exact r.2 y hy
    · rcases List.mem_cons.mp hb with hb' | hb'
      · subst hb'
        have r := o3 x hx (s, n) (by simp)
        have hXn : X ≠ [] := fun e => by rw [e] at hx; simp at hx
        have hsk : s ≤ key := hlo.resolve_left hXn
        refine ⟨fun y hy => ?_, fun y hy => ?_⟩
        · rw [ev_un (nX x hx)] at hy
          exact r.1 y hy
        · rw [show (ev_u E n (C ++ (key, v) :: D)) (s, n).2 = C ++ (key, v) :: D from ev_us] at hy
          simp only [List.map_append, List.map_cons, List.mem_append, List.mem_cons] at hy
          have hold : ∀ y, y ∈ C.map Prod.fst ∨ y ∈ D.map Prod.fst → s ≤ y := by
            intro y hy
            refine r.2 y ?_
            show y ∈ (E n).map Prod.fst
            rw [hE, List.map_append]
            exact List.mem_append.mpr hy
          rcases hy with hy | hy | hy
          · exact hold y (Or.inl hy)
          · rw [hy]; exact hsk
          · exact hold y (Or.inr hy)
      · exact ev_R_c (ev_un (nX x hx)) (ev_un (nY b hb')) (o3 x hx b (List.mem_cons_of_mem _ hb'))
  · rw [hL, List.flatMap_append, List.flatMap_cons, ev_us,
      ev_fmc (l := A) (fun m hm => ev_un (fun e => nd.2.2 m hm n (by simp) e)),
      ev_fmc (l := B) (fun m hm => ev_un (fun e => (List.nodup_cons.mp nd.2.1).1 (by rw [← e]; exact hm)))]
    simp
theorem ev_ldel {E : Nat → List (Nat × Nat)} {h : Nat} {L : Nat → List Nat} {K : List Nat} {A B : List Nat} {n : Nat} {e0 : Nat × Nat} {C D : List (Nat × Nat)} (T : ev_ts E h L K) (N : ev_nd h L) (hL : L 0 = A ++ n :: B) (hE : E n = C ++ e0 :: D) :
    K = ((A.flatMap E).map Prod.fst ++ C.map Prod.fst) ++ e0.1 :: (D.map Prod.fst ++ (B.flatMap E).map Prod.fst) ∧
    ev_ts (ev_u E n (C ++ D)) h L (((A.flatMap E).map Prod.fst ++ C.map Prod.fst) ++ (D.map Prod.fst ++ (B.flatMap E).map Prod.fst)) := by
  have hn0 : n ∈ L 0 := by rw [hL]; simp
  have ag : ∀ j m, j ≤ h → 1 ≤ j → m ∈ L j → (ev_u E n (C ++ D)) m = E m := by
    intro j m hj h1 hm
    refine ev_un (fun e => ?_)
    have := N.2 j 0 m hj (by omega) hm (by rw [e]; exact hn0)
    omega
  have nd := N.1 0 (by omega)
  rw [hL, List.nodup_append] at nd
  have hK : K = ((A.flatMap E).map Prod.fst ++ C.map Prod.fst) ++ e0.1 :: (D.map Prod.fst ++ (B.flatMap E).map Prod.fst) := by
    rw [← T.2.2.2.2.1, hL, List.flatMap_append, List.flatMap_cons, hE]; simp
  have sub : ∀ m y, y ∈ ((ev_u E n (C ++ D)) m).map Prod.fst → y ∈ (E m).map Prod.fst := by
    intro m y hy
    by_cases c : m = n
    · subst c
      rw [ev_us] at hy
      rw [hE]
      simp only [List.map_append, List.map_cons, List.mem_append, List.mem_cons] at hy ⊢
      rcases hy with hy | hy
      · exact Or.inl hy
      · exact Or.inr (Or.inr hy)
    · rw [ev_un c] at hy; exact hy
  refine ⟨hK, T.1, fun i hi => ?_, fun i m e h1 hi hm he => ?_, fun h1 => ?_, ?_, ?_⟩
  · rw [ev_sn_c (fun m hm => ag (i + 1) m (by omega) (by omega) hm)]; exact T.2.1 i hi
  · rw [ag (i + 1) m (by omega) (by omega) hm] at he
    rw [ev_fk_c (ag i e.2 (by omega) h1 (ev_ts_child T hi hm he))]
    exact T.2.2.1 i m e h1 hi hm he
  · rw [ev_fmc (fun m hm => ag 1 m h1 (by omega) hm)]
    exact (T.2.2.2.1 h1).imp (fun {a b} r => ⟨fun y hy => r.1 y (sub _ y hy), fun y hy => r.2 y (sub _ y hy)⟩)
  · rw [hL, List.flatMap_append, List.flatMap_cons, ev_us,
      ev_fmc (l := A) (fun m hm => ev_un (fun e => nd.2.2 m hm n (by simp) e)),
      ev_fmc (l := B) (fun m hm => ev_un (fun e => (List.nodup_cons.mp nd.2.1).1 (by rw [← e]; exact hm)))]
    simp
  · have s := T.2.2.2.2.2
    rw [hK] at s
    rw [List.pairwise_append] at s ⊢
    obtain ⟨s1, s2, s3⟩ := s
    rw [List.pairwise_cons] at s2
    exact ⟨s1, s2.2, fun a ha b hb => s3 a ha b (List.mem_cons_of_mem _ hb)⟩
/-! the search -/
def ev_at (E : Nat → List (Nat × Nat)) (L : Nat → List Nat) (j n key : Nat) : Prop :=
  ∃ P Q, L j = P ++ n :: Q ∧ (P = [] ∨ ev_fk E n ≤ key) ∧ (∀ q Q', Q = q :: Q' → key < ev_fk E q)
def ev_lf (E : Nat → List (Nat × Nat)) (h : Nat) (L : Nat → List Nat) (c key : Nat) : Prop :=
  ∃ A B, L 0 = A ++ c :: B ∧ (∀ y, y ∈ (A.flatMap E).map Prod.fst → y < key) ∧ (∀ y, y ∈ (B.flatMap E).map Prod.fst → key < y) ∧
    (1 ≤ h → ∃ X s Y, (L 1).flatMap E = X ++ (s, c) :: Y ∧ (X = [] ∨ s ≤ key) ∧ ∀ y, y ∈ Y → key < y.1)
theorem ev_fk_cons {E : Nat → List (Nat × Nat)} {n : Nat} {e : Nat × Nat} {l : List (Nat × Nat)} (h : E n = e :: l) : ev_fk E n = e.1 := by
  unfold ev_fk; rw [h]
theorem ev_at_step {E : Nat → List (Nat × Nat)} {h : Nat} {L : Nat → List Nat} {K : List Nat} {j n key s c : Nat} {C D : List (Nat × Nat)} (T : ev_ts E h L K) (ne : ∀ i m, i ≤ h → m ∈ L i → E m ≠ []) (hj : 1 ≤ j) (hjh : j < h) (H : ev_at E L (j + 1) n key) (hE : E n = C ++ (s, c) :: D) (h1 : C = [] ∨ s ≤ key) (h2 : ∀ d D', D = d :: D' → key < d.1) : ev_at E L j c key := by
  obtain ⟨P, Q, hL, hP, hQ⟩ := H
  have hnL : n ∈ L (j + 1) := by rw [hL]; simp
  have hLj : L j = (ev_sn E P ++ C.map Prod.snd) ++ c :: (D.map Prod.snd ++ ev_sn E Q) := by
    rw [← T.2.1 j hjh, hL, ev_sn_app, ev_sn_cons, hE]; simp
  have key1 : ∀ e, e ∈ E n → e.1 = ev_fk E e.2 := fun e he => T.2.2.1 j n e hj hjh hnL he
  refine ⟨_, _, hLj, ?_, fun q Q' hq => ?_⟩
  · have ek : s = ev_fk E c := key1 (s, c) (by rw [hE]; simp)
    cases C with
    | nil =>
      rcases hP with hP | hP
      · left; rw [hP]; rfl
      · right
        rw [← ek]
        rw [ev_fk_cons (show E n = (s, c) :: D from hE)] at hP
        exact hP
    | cons a C' =>
      right
      rw [← ek]
      exact h1.resolve_left (by simp)
  · cases D with
    | cons d D' =>
      have hq' : d.2 = q := by
        simp only [List.map_cons, List.cons_append, List.cons.injEq] at hq
        exact hq.1
      rw [← hq', ← key1 d (by rw [hE]; simp)]
      exact h2 d D' rfl
    | nil =>
      cases Q with
      | nil => simp [ev_sn] at hq
      | cons q0 Q0 =>
        have hq0 := hQ q0 Q0 rfl
        have hq0L : q0 ∈ L (j + 1) := by rw [hL]; simp
        cases hE0 : E q0 with
        | nil => exact absurd hE0 (ne (j + 1) q0 (by omega) hq0L)
        | cons f fs =>
          rw [ev_sn_cons, hE0] at hq
          have hq' : f.2 = q := by
            simp only [List.map_nil, List.nil_append, List.map_cons, List.cons_append, List.cons.injEq] at hq
            exact hq.1
          rw [ev_fk_cons hE0] at hq0
          rw [← hq', ← T.2.2.1 j q0 f hj hjh hq0L (by rw [hE0]; simp)]
          exact hq0
theorem ev_at_leaf {E : Nat → List (Nat × Nat)} {h : Nat} {L : Nat → List Nat} {K : List Nat} {n key s c : Nat} {C D : List (Nat × Nat)} (T : ev_ts E h L K) (ne : ∀ i m, i ≤ h → m ∈ L i → E m ≠ []) (hh : 1 ≤ h) (H : ev_at E L 1 n key) (hE : E n = C ++ (s, c) :: D) (h1 : C = [] ∨ s ≤ key) (h2 : ∀ d D', D = d :: D' → key < d.1) : ev_lf E h L c key := by
  obtain ⟨P, Q, hL, hP, hQ⟩ := H
  have hX : (L 1).flatMap E = (P.flatMap E ++ C) ++ (s, c) :: (D ++ Q.flatMap E) := by
    rw [hL, List.flatMap_append, List.flatMap_cons, hE]; simp
  have pw := T.2.2.2.1 hh
  have inL0 : ∀ z, z ∈ (L 1).flatMap E → z.2 ∈ L 0 := by
    intro z hz
    rw [← T.2.1 0 (by omega)]
    exact List.mem_map_of_mem hz
  have hlo : P.flatMap E ++ C = [] ∨ s ≤ key := by
    cases C with
    | nil =>
      rcases hP with hP | hP
      · left; rw [hP]; rfl
      · right
        rw [ev_fk_cons (show E n = (s, c) :: D from hE)] at hP
        exact hP
    | cons a C' => right; exact h1.resolve_left (by simp)
  have hhd : ∀ z Z, D ++ Q.flatMap E = z :: Z → key < z.1 := by
    intro z Z hz
    cases D with
    | cons d D' =>
      simp only [List.cons_append, List.cons.injEq] at hz
      rw [← hz.1]; exact h2 d D' rfl
    | nil =>
      cases Q with
      | nil => simp at hz
      | cons q0 Q0 =>
        have hq0 := hQ q0 Q0 rfl
        have hq0L : q0 ∈ L 1 := by rw [hL]; simp
        cases hE0 : E q0 with
        | nil => exact absurd hE0 (ne 1 q0 hh hq0L)
        | cons f fs =>
          rw [ev_fk_cons hE0] at hq0
          rw [List.nil_append, List.flatMap_cons, hE0, List.cons_append, List.cons.injEq] at hz
          rw [← hz.1]; exact hq0
  rw [hX] at pw inL0
  have hhi : ∀ y, y ∈ D ++ Q.flatMap E → key < y.1 := by
    cases hZ : D ++ Q.flatMap E with
    | nil => intro y hy; simp at hy
    | cons z Z =>
      have hz := hhd z Z hZ
      rw [hZ] at pw inL0
      rw [List.pairwise_append, List.pairwise_cons, List.pairwise_cons] at pw
      intro y hy
      rcases List.mem_cons.mp hy with hy' | hy'
      · rw [hy']; exact hz
      · cases hEz : E z.2 with
        | nil => exact absurd hEz (ne 0 z.2 (by omega) (inL0 z (by simp)))
        | cons g gs =>
          have hg : g.1 ∈ (E z.2).map Prod.fst := by rw [hEz]; simp
          have a1 := (pw.2.1.1 z (by simp)).2 g.1 hg
          have a2 := (pw.2.1.2.1 y hy').1 g.1 hg
          omega
  have hL0 : L 0 = (P.flatMap E ++ C).map Prod.snd ++ c :: (D ++ Q.flatMap E).map Prod.snd := by
    rw [← T.2.1 0 (by omega)]
    show ((L 1).flatMap E).map Prod.snd = _
    rw [hX]; simp
  refine ⟨_, _, hL0, fun y hy => ?_, fun y hy => ?_, fun _ => ⟨_, s, _, hX, hlo, hhi⟩⟩
  · obtain ⟨g, hg, rfl⟩ := List.mem_map.mp hy
    obtain ⟨m, hm, hgm⟩ := List.mem_flatMap.mp hg
    obtain ⟨x, hx, rfl⟩ := List.mem_map.mp hm
    rw [List.pairwise_append] at pw
    have r := (pw.2.2 x hx (s, c) (by simp)).1 g.1 (List.mem_map_of_mem hgm)
    have hne : P.flatMap E ++ C ≠ [] := fun e => by rw [e] at hx; simp at hx
    have := hlo.resolve_left hne
    have r' : g.1 < s := r
    omega
  · obtain ⟨g, hg, rfl⟩ := List.mem_map.mp hy
    obtain ⟨m, hm, hgm⟩ := List.mem_flatMap.mp hg
    obtain ⟨x, hx, rfl⟩ := List.mem_map.mp hm
    rw [List.pairwise_append, List.pairwise_cons] at pw
    have r := (pw.2.1.1 x hx).2 g.1 (List.mem_map_of_mem hgm)
    have := hhi x hx
    omega
/-! counts -/
def ev_tot (L : Nat → List Nat) : Nat → Nat
  | 0 => (L 0).length
  | h + 1 => ev_tot L h + (L (h + 1)).length
theorem ev_two {E : Nat → List (Nat × Nat)} : ∀ {l : List Nat}, (∀ n, n ∈ l → 2 ≤ (E n).length) → 2 * l.length ≤ (l.flatMap E).length
  | [], _ => by simp
  | a :: l, h => by
      have h1 := h a (List.mem_cons_self ..)
      have h2 := ev_two (l := l) (fun n hn => h n (List.mem_cons_of_mem _ hn))
      rw [List.flatMap_cons, List.length_append, List.length_cons]
      omega
theorem ev_cnt {E : Nat → List (Nat × Nat)} {h : Nat} {L : Nat → List Nat} {K : List Nat} (T : ev_ts E h L K) (S : ∀ i n, i ≤ h → n ∈ L i → 2 ≤ (E n).length) :
    ∀ j, j ≤ h → ev_tot L j + (L j).length ≤ 2 * (L 0).length ∧ 2 ^ j * (L j).length ≤ (L 0).length
  | 0, _ => by simp [ev_tot]; omega
  | j + 1, hj => by
      obtain ⟨a, b⟩ := ev_cnt T S j (by omega)
      have c := ev_two (E := E) (l := L (j + 1)) (fun n hn => S (j + 1) n hj hn)
      have d : ((L (j + 1)).flatMap E).length = (L j).length := by
        rw [← T.2.1 j (by omega)]; unfold ev_sn; rw [List.length_map]
      rw [d] at c
      refine ⟨?_, ?_⟩
      · show ev_tot L j + (L (j + 1)).length + (L (j + 1)).length ≤ _
        omega
      · rw [Nat.pow_succ, Nat.mul_assoc]
        exact Nat.le_trans (Nat.mul_le_mul_left _ c) b
theorem ev_cntK {E : Nat → List (Nat × Nat)} {h : Nat} {L : Nat → List Nat} {K : List Nat} (T : ev_ts E h L K) (S : ∀ i n, i ≤ h → n ∈ L i → 2 ≤ (E n).length) (hK : K.length ≤ 96) : ev_tot L h ≤ 95 ∧ h ≤ 5 := by
  obtain ⟨a, b⟩ := ev_cnt T S h (Nat.le_refl _)
  obtain ⟨r, hr⟩ := T.1
  rw [hr] at a b
  have c := ev_two (E := E) (l := L 0) (fun n hn => S 0 n (by omega) hn)
  have d : ((L 0).flatMap E).length = K.length := by rw [← T.2.2.2.2.1, List.length_map]
  rw [d] at c
  simp only [List.length_cons, List.length_nil, Nat.zero_add, Nat.mul_one] at a b
  refine ⟨by omega, ?_⟩
  by_cases q : h ≤ 5
  · exact q
  · have : 2 ^ 6 ≤ 2 ^ h := Nat.pow_le_pow_right (by omega) (by omega)
    omega
theorem ev_tot_c {L L' : Nat → List Nat} : ∀ {h : Nat}, (∀ i, i ≤ h → (L' i).length = (L i).length) → ev_tot L' h = ev_tot L h
  | 0, e => e 0 (Nat.le_refl _)
  | h + 1, e => by
      show ev_tot L' h + _ = ev_tot L h + _
      rw [ev_tot_c (fun i hi => e i (by omega)), e (h + 1) (Nat.le_refl _)]
theorem ev_tot_u {L : Nat → List Nat} {i : Nat} {l : List Nat} : ∀ {h : Nat}, i ≤ h → ev_tot (ev_u L i l) h + (L i).length = ev_tot L h + l.length
  | 0, hi => by
      have : i = 0 := by omega
      subst this
      show ((ev_u L 0 l) 0).length + _ = _
      rw [ev_us]
      show _ = (L 0).length + _
      omega
  | h + 1, hi => by
      show ev_tot (ev_u L i l) h + ((ev_u L i l) (h + 1)).length + _ = ev_tot L h + (L (h + 1)).length + _
      by_cases c : i = h + 1
      · subst c
        rw [ev_us, ev_tot_c (L := L) (fun j hj => by rw [ev_un (by omega)])]
        omega
      · rw [ev_un (fun e => c e.symm)]
        have := ev_tot_u (L := L) (l := l) (h := h) (i := i) (by omega)
        omega
end
section
/-! links of the leaves, the accounting of nodes, the invariant of the two trees -/
def ev_hd : List Nat → Option Nat → Option Nat
  | [], e => e
  | b :: _, _ => some b
def ev_la : List Nat → Option Nat → Option Nat
  | [], c => c
  | a :: l, _ => ev_la l (some a)
def ev_nk (nx : Nat → Int32) (e : Option Nat) : List Nat → Prop
  | [] => True
  | a :: l => nx a = ev_o (ev_hd l e) ∧ ev_nk nx e l
def ev_pk (pv : Nat → Int32) : Option Nat → List Nat → Prop
  | _, [] => True
  | c, a :: l => pv a = ev_o c ∧ ev_pk pv (some a) l
theorem ev_hd_app (P Q : List Nat) (e : Option Nat) : ev_hd (P ++ Q) e = ev_hd P (ev_hd Q e) := by cases P <;> rfl
theorem ev_la_snoc : ∀ (P : List Nat) (q : Nat) (c : Option Nat), ev_la (P ++ [q]) c = some q
  | [], q, c => rfl
  | a :: P, q, c => ev_la_snoc P q (some a)
theorem ev_nk_app {nx : Nat → Int32} {e : Option Nat} {Q : List Nat} : ∀ {P : List Nat}, ev_nk nx e (P ++ Q) ↔ ev_nk nx (ev_hd Q e) P ∧ ev_nk nx e Q
  | [] => ⟨fun h => ⟨trivial, h⟩, fun h => h.2⟩
  | a :: P => by
      show (nx a = ev_o (ev_hd (P ++ Q) e) ∧ ev_nk nx e (P ++ Q)) ↔ (nx a = ev_o (ev_hd P (ev_hd Q e)) ∧ ev_nk nx (ev_hd Q e) P) ∧ ev_nk nx e Q
      rw [ev_hd_app, ev_nk_app, and_assoc]
theorem ev_pk_app {pv : Nat → Int32} {Q : List Nat} : ∀ {c : Option Nat} {P : List Nat}, ev_pk pv c (P ++ Q) ↔ ev_pk pv c P ∧ ev_pk pv (ev_la P c) Q
  | c, [] => by
      show ev_pk pv c Q ↔ True ∧ ev_pk pv c Q
      exact ⟨fun h => ⟨trivial, h⟩, fun h => h.2⟩
  | c, a :: P => by
      show (pv a = ev_o c ∧ ev_pk pv (some a) (P ++ Q)) ↔ (pv a = ev_o c ∧ ev_pk pv (some a) P) ∧ ev_pk pv (ev_la P (some a)) Q
      rw [ev_pk_app, and_assoc]
theorem ev_nk_c {nx nx' : Nat → Int32} {e : Option Nat} : ∀ {l : List Nat}, (∀ m, m ∈ l → nx' m = nx m) → ev_nk nx e l → ev_nk nx' e l
  | [], _, _ => trivial
  | a :: l, h, g => ⟨by rw [h a (List.mem_cons_self ..)]; exact g.1, ev_nk_c (fun m hm => h m (List.mem_cons_of_mem _ hm)) g.2⟩
theorem ev_pk_c {pv pv' : Nat → Int32} : ∀ {c : Option Nat} {l : List Nat}, (∀ m, m ∈ l → pv' m = pv m) → ev_pk pv c l → ev_pk pv' c l
  | _, [], _, _ => by unfold ev_pk; trivial
  | c, a :: l, h, g => by
      have g' : pv a = ev_o c ∧ ev_pk pv (some a) l := g
      show pv' a = ev_o c ∧ ev_pk pv' (some a) l
      exact ⟨by rw [h a (List.mem_cons_self ..)]; exact g'.1, ev_pk_c (fun m hm => h m (List.mem_cons_of_mem _ hm)) g'.2⟩
theorem ev_nk_cons {nx : Nat → Int32} {e : Option Nat} {a : Nat} {l : List Nat} : ev_nk nx e (a :: l) ↔ nx a = ev_o (ev_hd l e) ∧ ev_nk nx e l := Iff.rfl
theorem ev_pk_cons {pv : Nat → Int32} {c : Option Nat} {a : Nat} {l : List Nat} : ev_pk pv c (a :: l) ↔ pv a = ev_o c ∧ ev_pk pv (some a) l := by
  constructor
  · intro h; exact h
  · intro h; exact h
theorem ev_hd_mem {l : List Nat} {q : Nat} (h : ev_hd l none = some q) : ∃ l', l = q :: l' := by
  cases l with
  | nil => simp [ev_hd] at h
  | cons a l' =>
    have : a = q := by simpa [ev_hd] using h
    exact ⟨l', by rw [this]⟩
/-- the links over a split leaf -/
theorem ev_lS_ok {nx pv nx' pv' : Nat → Int32} {A B : List Nat} {n r : Nat} (nd : (A ++ n :: B).Nodup) (hrA : r ∉ A ++ n :: B) (h : ev_lS nx pv nx' pv' n r (ev_hd B none)) (h1 : ev_nk nx none (A ++ n :: B)) (h2 : ev_pk pv none (A ++ n :: B)) :
    ev_nk nx' none (A ++ n :: r :: B) ∧ ev_pk pv' none (A ++ n :: r :: B) := by
  obtain ⟨l1, l2, l3, l4, l5, l6⟩ := h
  rw [ev_nk_app, ev_nk_cons] at h1
  rw [ev_pk_app, ev_pk_cons] at h2
  rw [List.nodup_append, List.nodup_cons] at nd
  have nA : ∀ m, m ∈ A → m ≠ n ∧ m ≠ r := fun m hm => ⟨nd.2.2 m hm n (by simp), fun e => hrA (by rw [← e]; simp [hm])⟩
  have nB : ∀ m, m ∈ B → m ≠ n ∧ m ≠ r := fun m hm => ⟨fun e => nd.2.1.1 (by rw [← e]; exact hm), fun e => hrA (by rw [← e]; simp [hm])⟩
  have oB : ∀ m, ev_hd B none = some m → m ∈ B := by
    intro m hm
    obtain ⟨l', rfl⟩ := ev_hd_mem hm
    simp
  have hrn : n ≠ r := fun e => hrA (by rw [← e]; simp)
  refine ⟨?_, ?_⟩
  · rw [ev_nk_app, ev_nk_cons, ev_nk_cons]
    refine ⟨ev_nk_c (fun m hm => l3 m (nA m hm).1 (nA m hm).2) h1.1, l1, l2, ev_nk_c (fun m hm => l3 m (nB m hm).1 (nB m hm).2) h1.2.2⟩
  · rw [ev_pk_app, ev_pk_cons, ev_pk_cons]
    refine ⟨ev_pk_c (fun m hm => l6 m (nA m hm).2 (fun e => nd.2.2 m hm m (by simp [oB m e]) rfl)) h2.1, ?_, l4, ?_⟩
    · rw [l6 n hrn (fun e => nd.2.1.1 (oB n e))]; exact h2.2.1
    · cases B with
      | nil => unfold ev_pk; trivial
      | cons q B' =>
        rw [ev_pk_cons]
        have h22 := h2.2.2
        rw [ev_pk_cons] at h22
        refine ⟨l5 q rfl, ev_pk_c (fun m hm => l6 m (nB m (by simp [hm])).2 (fun e => ?_)) h22.2⟩
        have e' : q = m := by simpa [ev_hd] using e
        have nq := nd.2.1.2
        rw [List.nodup_cons] at nq
        exact nq.1 (by rw [e']; exact hm)
/-- the links over a merge -/
theorem ev_lM_ok {nx pv nx' pv' : Nat → Int32} {A B : List Nat} {a b : Nat} (nd : (A ++ a :: b :: B).Nodup) (h : ev_lM nx pv nx' pv' a (ev_hd B none)) (h1 : ev_nk nx none (A ++ a :: b :: B)) (h2 : ev_pk pv none (A ++ a :: b :: B)) :
    ev_nk nx' none (A ++ a :: B) ∧ ev_pk pv' none (A ++ a :: B) := by
  obtain ⟨l1, l2, l5, l6⟩ := h
  rw [ev_nk_app, ev_nk_cons, ev_nk_cons] at h1
  rw [ev_pk_app, ev_pk_cons, ev_pk_cons] at h2
  rw [List.nodup_append, List.nodup_cons, List.nodup_cons] at nd
  have oB : ∀ m, ev_hd B none = some m → m ∈ B := by
    intro m hm
    obtain ⟨l', rfl⟩ := ev_hd_mem hm
    simp
  refine ⟨?_, ?_⟩
  · rw [ev_nk_app, ev_nk_cons]
    exact ⟨ev_nk_c (fun m hm => l2 m (nd.2.2 m hm a (by simp))) h1.1, l1, ev_nk_c (fun m hm => l2 m (fun e => nd.2.1.1 (by rw [← e]; simp [hm]))) h1.2.2.2⟩
  · rw [ev_pk_app, ev_pk_cons]
    refine ⟨ev_pk_c (fun m hm => l6 m (fun e => nd.2.2 m hm m (by simp [oB m e]) rfl)) h2.1, ?_, ?_⟩
    · rw [l6 a (fun e => nd.2.1.1 (by simp [oB a e]))]; exact h2.2.1
    · cases B with
      | nil => unfold ev_pk; trivial
      | cons q B' =>
        rw [ev_pk_cons]
        have h22 := h2.2.2.2
        rw [ev_pk_cons] at h22
        refine ⟨l5 q rfl, ev_pk_c (fun m hm => l6 m (fun e => ?_)) h22.2⟩
        have e' : q = m := by simpa [ev_hd] using e
        have nq := nd.2.1.2.2
        rw [List.nodup_cons] at nq
        exact nq.1 (by rw [e']; exact hm)
def ev_ac (h : Nat → Nat) (L : Nat → Nat → List Nat) (sl : List Nat) (ow : Nat → Nat) : Prop :=
  (∀ t i, t < 2 → i ≤ h t → (L t i).Nodup ∧ ∀ n, n ∈ L t i → n < 200 ∧ ow n = 2 * i + t + 1) ∧ sl.Nodup ∧ (∀ n, n ∈ sl → n < 200 ∧ ow n = 0) ∧
  sl.length + ev_tot (L 0) (h 0) + ev_tot (L 1) (h 1) = 200
def ev_li (h : Nat → Nat) (L : Nat → Nat → List Nat) (lf nx pv : Nat → Int32) : Prop :=
  ∀ t, t < 2 → (∀ i n, i ≤ h t → n ∈ L t i → lf n = if i = 0 then 1 else 0) ∧ ev_nk nx none (L t 0) ∧ ev_pk pv none (L t 0)
def ev_ar (h : Nat → Nat) (L : Nat → Nat → List Nat) (sl : List Nat) (sp : Int32) (sr rt : Nat → Int32) : Prop :=
  sp = nI sl.length ∧ (∀ j m, sl[j]? = some m → sr j = nI m) ∧ ∀ t, t < 2 → ∃ r, L t (h t) = [r] ∧ rt t = nI r
def ev_tI (E : Nat → List (Nat × Nat)) (h : Nat → Nat) (L : Nat → Nat → List Nat) (sl : List Nat) (ow : Nat → Nat) (x lo hi : Nat) (K : Nat → List Nat) (sp : Int32) (ks bl sz lf nx pv sr rt : Nat → Int32) : Prop :=
  ev_hp E ks bl sz ∧ (∀ t, t < 2 → ev_ts E (h t) (L t) (K t)) ∧ (∀ t, t < 2 → ev_sb E (h t) (L t) x lo hi) ∧ ev_ac h L sl ow ∧ ev_li h L lf nx pv ∧ ev_ar h L sl sp sr rt
def ev_TI (K : Nat → List Nat) (sp : Int32) (ks bl sz lf nx pv sr rt : Nat → Int32) : Prop :=
  ∃ E h L sl ow, ev_tI E h L sl ow 0 2 4 K sp ks bl sz lf nx pv sr rt
theorem ev_ac_nd {h : Nat → Nat} {L : Nat → Nat → List Nat} {sl : List Nat} {ow : Nat → Nat} (A : ev_ac h L sl ow) {t : Nat} (ht : t < 2) : ev_nd (h t) (L t) := by
  refine ⟨fun i hi => (A.1 t i ht hi).1, fun i j n hi hj h1 h2 => ?_⟩
  have a := ((A.1 t i ht hi).2 n h1).2
  have b := ((A.1 t j ht hj).2 n h2).2
  omega
theorem ev_ac_sl {h : Nat → Nat} {L : Nat → Nat → List Nat} {sl : List Nat} {ow : Nat → Nat} (A : ev_ac h L sl ow) {t i n : Nat} (ht : t < 2) (hi : i ≤ h t) (hn : n ∈ L t i) : n ∉ sl := by
  intro hs
  have a := ((A.1 t i ht hi).2 n hn).2
  have b := (A.2.2.1 n hs).2
  omega
theorem ev_ac_tt {h : Nat → Nat} {L : Nat → Nat → List Nat} {sl : List Nat} {ow : Nat → Nat} (A : ev_ac h L sl ow) {t t' i j n : Nat} (ht : t < 2) (ht' : t' < 2) (hi : i ≤ h t) (hj : j ≤ h t') (hn : n ∈ L t i) (hn' : n ∈ L t' j) : t = t' ∧ i = j := by
  have a := ((A.1 t i ht hi).2 n hn).2
  have b := ((A.1 t' j ht' hj).2 n hn').2
  omega
theorem ev_tI_cnt {E : Nat → List (Nat × Nat)} {h : Nat → Nat} {L : Nat → Nat → List Nat} {x lo hi : Nat} {K : Nat → List Nat} {t : Nat} (T : ev_ts E (h t) (L t) (K t)) (S : ev_sb E (h t) (L t) x lo hi) (hlo : 2 ≤ lo) (hK : (K t).length ≤ 96) : ev_tot (L t) (h t) ≤ 95 ∧ h t ≤ 5 := by
  by_cases c : h t = 0
  · rw [c]
    obtain ⟨r, hr⟩ := T.1
    rw [c] at hr
    refine ⟨?_, by omega⟩
    show (L t 0).length ≤ 95
    rw [hr]; simp
  · refine ev_cntK T (fun i n hi hn => ?_) hK
    obtain ⟨a, b⟩ := S i n hi hn
    by_cases e : n = x
    · have := (b e).1
      omega
    · have := (a e).1
      omega
theorem ev_sb_ne {E : Nat → List (Nat × Nat)} {h : Nat} {L : Nat → List Nat} {x lo hi : Nat} (S : ev_sb E h L x lo hi) (hlo : 1 ≤ lo) (h1 : 1 ≤ h) : ∀ i m, i ≤ h → m ∈ L i → E m ≠ [] := by
  intro i m hi hm e
  obtain ⟨a, b⟩ := S i m hi hm
  rw [e] at a b
  by_cases c : m = x
  · have := (b c).1; simp at this; omega
  · have := (a c).1; simp at this; omega
end
section
/-! the walk of descend -/
section
variable {fb sp dp kp lg ls fd mn : Int32} {pc us it ln ks bl sz lf nx pv sr rt pa wy oa ov bg : Nat → Int32}
def ev_pth (E : Nat → List (Nat × Nat)) (h : Nat) (L : Nat → List Nat) (pa wy : Nat → Int32) (p w : Nat → Nat) (i : Nat) : Prop :=
  ∀ j, i < j → j ≤ h → pa (h - j) = nI (p j) ∧ wy (h - j) = nI (w j) ∧ p j ∈ L j ∧ ∃ C s D, E (p j) = C ++ (s, p (j - 1)) :: D ∧ C.length = w j
theorem ev_descend31 {post : Int32 → SX → Prop} {J : Int32 → Int32 → (Nat → Int32) → (Nat → Int32) → (Nat → Int32) → (Nat → Int32) → (Nat → Int32) → (Nat → Int32) → (Nat → Int32) → (Nat → Int32) → (Nat → Int32) → (Nat → Int32) → (Nat → Int32) → (Nat → Int32) → (Nat → Int32) → (Nat → Int32) → (Nat → Int32) → (Nat → Int32) → (Nat → Int32) → Prop}
    {E : Nat → List (Nat × Nat)} {n key : Nat} (h : ev_hp E ks bl sz) (hn : n < 200) (hk : key < 2 ^ 24)
    (K : ∀ C s c D, E n = C ++ (s, c) :: D → (C = [] ∨ s ≤ key) → (∀ d D', D = d :: D' → key < d.1) → wX_descend_57 post J (nI key) (nI n) (nI C.length) fb sp dp kp lg ls fd mn pc us it ln ks bl sz lf nx pv sr rt pa wy oa ov bg) :
    ∀ (k : Nat) (C : List (Nat × Nat)) (s c : Nat) (D : List (Nat × Nat)), C.length = k → E n = C ++ (s, c) :: D → (∀ d D', D = d :: D' → key < d.1) →
    wX_descend_31 post J (nI key) (nI n) fb sp dp kp lg ls fd mn pc us it ln ks bl sz lf nx pv sr rt pa wy oa ov bg (k + 1) (nI k) := by
  intro k
  induction k with
  | zero =>
    intro C s c D hC hE hD
    have := K C s c D hE (Or.inl (List.eq_nil_of_length_eq_zero hC)) hD
    rw [hC] at this
    exact br_t (nI_le (b := 0) (Nat.le_refl _) (by omega)) this
  | succ k ih =>
    intro C s c D hC hE hD
    obtain ⟨h1, h2, h3⟩ := h n hn
    have hlen : (E n).length = C.length + D.length + 1 := by rw [hE]; simp; omega
    have q := h3 C.length (s, c) (by rw [hE]; exact ev_mid)
    rw [hC] at q
    dsimp only at q
    refine br_f (nI_ge (a := 0) (by omega) (by omega)) ⟨ev_in5 (by omega), ?_⟩
    rw [ev_cl5 (by omega), q.2.2.1]
    by_cases le : s ≤ key
    · have := K C s c D hE (Or.inr le) hD
      rw [hC] at this
      exact br_t (nI_le le (by omega)) this
    · refine br_f (nI_ge (by omega) (by omega)) (fun y ey => ?_)
      rw [pk_m1] at ey
      subst ey
      have hCn : C ≠ [] := fun e => by rw [e] at hC; simp at hC
      obtain ⟨C', e', hC'⟩ : ∃ C' e', C = C' ++ [e'] := ⟨C.dropLast, C.getLast hCn, (List.dropLast_concat_getLast hCn).symm⟩
      subst hC'
      refine ih C' e'.1 e'.2 ((s, c) :: D) (by simpa using hC) (by rw [hE]; simp) (fun d D' hd => ?_)
      have : (s, c) = d := (List.cons.injEq .. ▸ hd).1
      rw [← this]
      show key < s
      omega
theorem ev_descend12 {post : Int32 → SX → Prop} {E : Nat → List (Nat × Nat)} {h : Nat} {L : Nat → List Nat} {K : List Nat} {key : Nat} (H : ev_hp E ks bl sz) (T : ev_ts E h L K) (ne : 1 ≤ h → ∀ i m, i ≤ h → m ∈ L i → E m ≠ []) (hlt : ∀ i m, i ≤ h → m ∈ L i → m < 200) (hlf : ∀ i n, i ≤ h → n ∈ L i → lf n = if i = 0 then 1 else 0) (hh : h ≤ 9) (hk : key < 2 ^ 24)
    (P : ∀ c pa' wy' p w, ev_lf E h L c key → ev_pth E h L pa' wy' p w 0 → p 0 = c → c ∈ L 0 → post (nI c) (fb, sp, nI h, kp, lg, ls, fd, mn, pc, us, it, ln, ks, bl, sz, lf, nx, pv, sr, rt, pa', wy', oa, ov, bg)) :
    ∀ (i n : Nat) (pa wy : Nat → Int32) (p w : Nat → Nat), i ≤ h → n ∈ L i → (1 ≤ i → ev_at E L i n key) → (i = 0 → ev_lf E h L n key) → ev_pth E h L pa wy p w i → p i = n →
    wX_descend_12 post (nI key) fb sp kp lg ls fd mn (i + 1) (nI n) (nI (h - i)) pc us it ln ks bl sz lf nx pv sr rt pa wy oa ov bg := by
  intro i
  induction i with
  | zero =>
    intro n pa wy p w hi hn _ hL hp hpi
    have n2 := hlt 0 n hi hn
    refine And.intro (vp_in_nI n2 (by omega)) ?_
    rw [nI_clamp (by omega)]
    have := hlf 0 n hi hn
    refine br_f (by rw [this]; decide) ?_
    exact P n pa wy p w (hL rfl) hp hpi hn
  | succ i ih =>
    intro n pa wy p w hi hn hat _ hp hpi
    have n2 := hlt (i + 1) n hi hn
    obtain ⟨h1, h2, h3⟩ := H n n2
    refine And.intro (vp_in_nI n2 (by omega)) ?_
    rw [nI_clamp (by omega)]
    have hl0 := hlf (i + 1) n hi hn
    refine br_t (by rw [hl0]; rfl) ⟨vp_in_nI n2 (by omega), fun y ey => ?_⟩
    have hne := ne (by omega) (i + 1) n hi hn
    obtain ⟨C0, e0, hE0⟩ : ∃ C' e', E n = C' ++ [e'] := ⟨(E n).dropLast, (E n).getLast hne, (List.dropLast_concat_getLast hne).symm⟩
    have hlen : (E n).length = C0.length + 1 := by rw [hE0]; simp
    rw [h2, hlen, nI_pred] at ey
    subst ey
    refine Exists.intro (C0.length + 1) ?_
    refine ev_descend31 (E := E) H n2 hk (fun C s c D hE hlo hhi => ?_) C0.length C0 e0.1 e0.2 [] rfl hE0 (fun d D' hd => by simp at hd)
    have hlE : (E n).length = C.length + D.length + 1 := by rw [hE]; simp; omega
    have q := h3 C.length (s, c) (by rw [hE]; exact ev_mid)
    dsimp only at q
    have hd : h - (i + 1) < 10 := by omega
    refine And.intro (vp_in_nI hd (by omega)) (fun g eg d ed => ⟨vp_in_nI hd (by omega), fun w' ew => ⟨ev_in5 (by omega), fun x ex => ?_⟩⟩)
    rw [nI_clamp (by omega), ev_nss (by omega)] at eg
    rw [nI_clamp (by omega), ev_nbb (by omega)] at ew
    rw [ev_cl5 (by omega), q.2.2.2] at ex
    rw [nI_1, show h - (i + 1) + 1 = h - i from by omega] at ed
    subst ex
    subst ed
    have hcL : c ∈ L i := ev_ts_child T (i := i) (e := (s, c)) (by omega) hn (by rw [hE]; simp)
    refine ih c g w' (ev_u p i c) (ev_u w (i + 1) C.length) (by omega) hcL (fun h1 => ?_) (fun h0 => ?_) ?_ ev_us
    · exact ev_at_step T (ne (by omega)) h1 (by omega) (hat (by omega)) hE hlo hhi
    · subst h0
      exact ev_at_leaf T (ne (by omega)) (by omega) (hat (by omega)) hE hlo hhi
    · intro j hj hjh
      by_cases cj : j = i + 1
      · subst cj
        rw [eg, ew, pk_us, pk_us, ev_un (by omega), ev_us, hpi, show i + 1 - 1 = i from rfl, ev_us]
        exact ⟨rfl, rfl, hn, C, s, D, hE, rfl⟩
      · obtain ⟨a1, a2, a3, a4⟩ := hp j (by omega) hjh
        rw [eg, ew, pk_un (by omega), pk_un (by omega), ev_un (by omega), ev_un (by omega), ev_un (by omega)]
        exact ⟨a1, a2, a3, a4⟩
theorem ev_descend {post : Int32 → SX → Prop} {E : Nat → List (Nat × Nat)} {h : Nat → Nat} {L : Nat → Nat → List Nat} {sl : List Nat} {ow : Nat → Nat} {K : Nat → List Nat} {t key : Nat} (I : ev_tI E h L sl ow 0 2 4 K sp ks bl sz lf nx pv sr rt) (ht : t < 2) (hK : (K t).length ≤ 96) (hk : key < 2 ^ 24)
    (P : ∀ c pa' wy' p w, ev_lf E (h t) (L t) c key → ev_pth E (h t) (L t) pa' wy' p w 0 → p 0 = c → c ∈ L t 0 → post (nI c) (fb, sp, nI (h t), kp, lg, ls, fd, mn, pc, us, it, ln, ks, bl, sz, lf, nx, pv, sr, rt, pa', wy', oa, ov, bg)) :
    wpX_descend post (fb, sp, dp, kp, lg, ls, fd, mn, pc, us, it, ln, ks, bl, sz, lf, nx, pv, sr, rt, pa, wy, oa, ov, bg) (nI t) (nI key) := by
  obtain ⟨H, T, S, A, Li, Ar⟩ := I
  obtain ⟨r, hr, hrt⟩ := Ar.2.2 t ht
  have cnt := ev_tI_cnt (T t ht) (S t ht) (Nat.le_refl _) hK
  refine And.intro (vp_in_nI ht (by omega)) (fun x ex => Exists.intro (h t + 1) ?_)
  rw [nI_clamp (by omega), hrt] at ex
  subst ex
  have hin : r ∈ L t (h t) := by rw [hr]; simp
  have base := ev_descend12 (fb := fb) (sp := sp) (kp := kp) (lg := lg) (ls := ls) (fd := fd) (mn := mn) (pc := pc) (us := us) (it := it) (ln := ln) (sr := sr) (rt := rt) (oa := oa) (ov := ov) (bg := bg) (nx := nx) (pv := pv) H (T t ht) (fun h1 => ev_sb_ne (S t ht) (by omega) h1) (fun i m hi hm => ((A.1 t i ht hi).2 m hm).1) (Li t ht).1 (by omega) hk P (h t) r pa wy (fun _ => r) (fun _ => 0) (Nat.le_refl _) hin
    (fun _ => ⟨[], [], hr, Or.inl rfl, fun q Q' e => by simp at e⟩)
    (fun h0 => ⟨[], [], by rw [h0] at hr; exact hr, fun y hy => by simp at hy, fun y hy => by simp at hy, fun h1 => by omega⟩)
    (fun j h1 h2 => by omega) rfl
  rw [Nat.sub_self] at base
  exact base
end
end
section
/-! the walks of notBelow and notAbove -/
section
variable {fb sp dp kp lg ls fd mn : Int32} {pc us it ln ks bl sz lf nx pv sr rt pa wy oa ov bg : Nat → Int32}
def ev_gb (K : List Nat) (key : Nat) : Option Nat → Prop
  | none => ∀ y, y ∈ K → y < key
  | some y => y ∈ K ∧ key ≤ y ∧ ∀ z, z ∈ K → key ≤ z → y ≤ z
def ev_na (K : List Nat) (key : Nat) : Option Nat → Prop
  | none => ∀ y, y ∈ K → key < y
  | some y => y ∈ K ∧ y ≤ key ∧ ∀ z, z ∈ K → z ≤ key → z ≤ y
theorem ev_gb_s {X Z : List Nat} {y key : Nat} (s : (X ++ y :: Z).Pairwise (· < ·)) (h1 : ∀ z, z ∈ X → z < key) (h2 : key ≤ y) : ev_gb (X ++ y :: Z) key (some y) := by
  rw [List.pairwise_append, List.pairwise_cons] at s
  refine ⟨by simp, h2, fun z hz hk => ?_⟩
  rcases List.mem_append.mp hz with a | a
  · have := h1 z a; omega
  · rcases List.mem_cons.mp a with b | b
    · omega
    · have := s.2.1.1 z b; omega
theorem ev_na_s {X Z : List Nat} {y key : Nat} (s : (X ++ y :: Z).Pairwise (· < ·)) (h1 : ∀ z, z ∈ Z → key < z) (h2 : y ≤ key) : ev_na (X ++ y :: Z) key (some y) := by
  rw [List.pairwise_append, List.pairwise_cons] at s
  refine ⟨by simp, h2, fun z hz hk => ?_⟩
  rcases List.mem_append.mp hz with a | a
  · have := s.2.2 z a y (by simp); omega
  · rcases List.mem_cons.mp a with b | b
    · omega
    · have := h1 z b; omega
theorem ev_notBelow10 {post : Int32 → SX → Prop} {E : Nat → List (Nat × Nat)} {c key : Nat} (h : ev_hp E ks bl sz) (hc : c < 200) (hk : key < 2 ^ 24)
    (P : ∀ C D, E c = C ++ D → (∀ e, e ∈ C → e.1 < key) → (∀ d D', D = d :: D' → key ≤ d.1) → wX_notBelow_42 post (nI c) (nI C.length) fb sp dp kp lg ls fd mn pc us it ln ks bl sz lf nx pv sr rt pa wy oa ov bg) :
    ∀ (D C : List (Nat × Nat)), E c = C ++ D → (∀ e, e ∈ C → e.1 < key) → wX_notBelow_10 post (nI key) (nI c) fb sp dp kp lg ls fd mn pc us it ln ks bl sz lf nx pv sr rt pa wy oa ov bg (D.length + 1) (nI C.length) := by
  obtain ⟨h1, h2, h3⟩ := h c hc
  intro D
  induction D with
  | nil =>
    intro C hE hC
    refine And.intro (vp_in_nI hc (by omega)) ?_
    rw [nI_clamp (by omega), h2]
    have hl : (E c).length = C.length := by rw [hE]; simp
    refine br_t (nI_le (by omega) (by omega)) (P C [] hE hC (fun d D' e => by simp at e))
  | cons d D ih =>
    intro C hE hC
    have hl : (E c).length = C.length + D.length + 1 := by rw [hE]; simp; omega
    have q := h3 C.length d (by rw [hE]; exact ev_mid)
    refine And.intro (vp_in_nI hc (by omega)) ?_
    rw [nI_clamp (by omega), h2]
    refine br_f (nI_ge (by omega) (by omega)) ⟨ev_in5 (by omega), ?_⟩
    rw [ev_cl5 (by omega), q.2.2.1]
    by_cases le : key ≤ d.1
    · refine br_t (nI_le le (by omega)) (P C (d :: D) hE hC (fun d' D' e => ?_))
      have : d = d' := (List.cons.injEq .. ▸ e).1
      rw [← this]; exact le
    · refine br_f (nI_ge (by omega) (by omega)) (fun y ey => ?_)
      rw [nI_1, show C.length + 1 = (C ++ [d]).length from by simp] at ey
      subst ey
      refine ih (C ++ [d]) (by rw [hE]; simp) (fun e he => ?_)
      rcases List.mem_append.mp he with a | a
      · exact hC e a
      · have : e = d := by simpa using a
        rw [this]; omega
theorem ev_notBelow {post : Int32 → SX → Prop} {K : Nat → List Nat} {t key : Nat} (I : ev_TI K sp ks bl sz lf nx pv sr rt) (ht : t < 2) (hK : (K t).length ≤ 96) (hk : key < 2 ^ 24)
    (P : ∀ r dp' pa' wy', ev_gb (K t) key r → post (ev_o r) (fb, sp, dp', kp, lg, ls, fd, mn, pc, us, it, ln, ks, bl, sz, lf, nx, pv, sr, rt, pa', wy', oa, ov, bg)) :
    wpX_notBelow post (fb, sp, dp, kp, lg, ls, fd, mn, pc, us, it, ln, ks, bl, sz, lf, nx, pv, sr, rt, pa, wy, oa, ov, bg) (nI t) (nI key) := by
  obtain ⟨E, h, L, sl, ow, I⟩ := I
  refine ev_descend (dp := dp) I ht hK hk (fun c pa' wy' p w hlf _ _ hc0 => ?_)
  obtain ⟨H, T, S, A, Li, Ar⟩ := I
  obtain ⟨LA, LB, hL, hA, hB, _⟩ := hlf
  have hc : c < 200 := ((A.1 t 0 ht (by omega)).2 c hc0).1
  obtain ⟨h1, h2, h3⟩ := H c hc
  refine Exists.intro ((E c).length + 1) ?_
  refine ev_notBelow10 (E := E) H hc hk (fun C D hE hC hD => ?_) (E c) [] rfl (fun e he => by simp at he)
  have hKe : K t = ((LA.flatMap E).map Prod.fst ++ C.map Prod.fst) ++ (D.map Prod.fst ++ (LB.flatMap E).map Prod.fst) := by
    rw [← (T t ht).2.2.2.2.1, hL, List.flatMap_append, List.flatMap_cons, hE]; simp
  have hs := (T t ht).2.2.2.2.2
  have hlow : ∀ z, z ∈ (LA.flatMap E).map Prod.fst ++ C.map Prod.fst → z < key := by
    intro z hz
    rcases List.mem_append.mp hz with a | a
    · exact hA z a
    · obtain ⟨e, he, rfl⟩ := List.mem_map.mp a
      exact hC e he
  refine And.intro (vp_in_nI hc (by omega)) ?_
  rw [nI_clamp (by omega), h2]
  cases D with
  | nil =>
    have hl : (E c).length = C.length := by rw [hE]; simp
    refine br_t (nI_le (by omega) (by omega)) ⟨vp_in_nI hc (by omega), fun y ey => ?_⟩
    have hn := (Li t ht).2.1
    rw [hL, ev_nk_app, ev_nk_cons] at hn
    rw [hn.2.1] at ey
    cases LB with
    | nil =>
      subst ey
      refine br_f (show ¬ (0 : Int32) ≤ -1 by decide) (P none _ pa' wy' ?_)
      intro y hy
      rw [hKe] at hy
      simp only [List.map_nil, List.flatMap_nil, List.append_nil] at hy
      exact hlow y hy
    | cons q LB' =>
      have hqL : q ∈ L t 0 := by rw [hL]; simp
      have hq : q < 200 := ((A.1 t 0 ht (by omega)).2 q hqL).1
      have hy : y = nI q := ey
      subst hy
      refine br_t (nI_pos' (by omega)) ⟨ev_in50 (by omega), ?_⟩
      rw [ev_cl50 (by omega)]
      have h1t : 1 ≤ h t := by
        by_cases c0 : h t = 0
        · obtain ⟨r, hr⟩ := (T t ht).1
          rw [c0, hL] at hr
          have := congrArg List.length hr
          simp at this
          omega
        · omega
      cases hEq : E q with
      | nil => exact absurd hEq (ev_sb_ne (S t ht) (by omega) h1t 0 q (by omega) hqL)
      | cons f fs =>
        have qf := (H q hq).2.2 0 f (by rw [hEq]; rfl)
        rw [show 5 * q = 5 * q + 0 from rfl, qf.2.2.1]
        refine P (some f.1) _ pa' wy' ?_
        have hK2 : K t = ((LA.flatMap E).map Prod.fst ++ C.map Prod.fst) ++ f.1 :: (fs.map Prod.fst ++ (LB'.flatMap E).map Prod.fst) := by
          rw [hKe, List.flatMap_cons, hEq]; simp
        rw [hK2] at hs ⊢
        refine ev_gb_s hs hlow ?_
        have := hB f.1 (by rw [List.flatMap_cons, hEq]; simp)
        omega
  | cons d D' =>
    have hl : (E c).length = C.length + D'.length + 1 := by rw [hE]; simp; omega
    have q := h3 C.length d (by rw [hE]; exact ev_mid)
    refine br_f (nI_ge (by omega) (by omega)) ⟨ev_in5 (by omega), ?_⟩
    rw [ev_cl5 (by omega), q.2.2.1]
    refine P (some d.1) _ pa' wy' ?_
    rw [hKe] at hs ⊢
    rw [List.map_cons, List.cons_append] at hs ⊢
    exact ev_gb_s hs hlow (hD d D' rfl)
/-- the place ahead of entry k: -1 for none -/
def ev_xm : Nat → Int32
  | 0 => -1
  | k + 1 => nI k
theorem ev_xm_sub (k : Nat) : nI k - 1 = ev_xm k := by
  cases k with
  | zero => decide
  | succ k => exact nI_pred k
theorem ev_xm_dec (k : Nat) : nI k + (-1) = ev_xm k := by
  cases k with
  | zero => decide
  | succ k => exact pk_m1 k
theorem ev_notAbove17 {post : Int32 → SX → Prop} {E : Nat → List (Nat × Nat)} {c key : Nat} (h : ev_hp E ks bl sz) (hc : c < 200) (hk : key < 2 ^ 24)
    (P : ∀ C D, E c = C ++ D → (∀ e, e ∈ D → key < e.1) → (∀ d C', C = C' ++ [d] → d.1 ≤ key) → wX_notAbove_43 post (nI c) (ev_xm C.length) fb sp dp kp lg ls fd mn pc us it ln ks bl sz lf nx pv sr rt pa wy oa ov bg) :
    ∀ (k : Nat) (C D : List (Nat × Nat)), C.length = k → E c = C ++ D → (∀ e, e ∈ D → key < e.1) → wX_notAbove_17 post (nI key) (nI c) fb sp dp kp lg ls fd mn pc us it ln ks bl sz lf nx pv sr rt pa wy oa ov bg (k + 1) (ev_xm k) := by
  obtain ⟨h1, h2, h3⟩ := h c hc
  intro k
  induction k with
  | zero =>
    intro C D hC hE hD
    have hC0 := List.eq_nil_of_length_eq_zero hC
    subst hC0
    exact br_t (show (-1 : Int32) < 0 by decide) (P [] D hE hD (fun d C' e => by simp at e))
  | succ k ih =>
    intro C D hC hE hD
    have hCn : C ≠ [] := fun e => by rw [e] at hC; simp at hC
    obtain ⟨C', d, hC'⟩ : ∃ C' e', C = C' ++ [e'] := ⟨C.dropLast, C.getLast hCn, (List.dropLast_concat_getLast hCn).symm⟩
    subst hC'
    have hk' : C'.length = k := by simpa using hC
    have hl : (E c).length = C'.length + D.length + 1 := by rw [hE]; simp; omega
    have q := h3 k d (by rw [hE, List.append_assoc, ← hk']; exact ev_mid)
    refine br_f (nI_pos (n := k) (by omega)) ⟨ev_in5 (b := k) (by omega), ?_⟩
    show (ks (5 * nI c + nI k).toNatClampNeg ≤ nI key → _) ∧ (¬ ks (5 * nI c + nI k).toNatClampNeg ≤ nI key → _)
    rw [ev_cl5 (by omega), q.2.2.1]
    by_cases le : d.1 ≤ key
    · have := P (C' ++ [d]) D hE hD (fun d' C'' e => ?_)
      · rw [hC] at this
        exact br_t (nI_le le (by omega)) this
      · have := List.append_inj_right' e rfl
        have e' : d = d' := by simpa using this
        rw [← e']; exact le
    · refine br_f (nI_ge (by omega) (by omega)) (fun y ey => ?_)
      have ey' : y = ev_xm k := by rw [ey]; exact ev_xm_dec k
      subst ey'
      refine ih C' (d :: D) hk' (by rw [hE]; simp) (fun e he => ?_)
      rcases List.mem_cons.mp he with a | a
      · rw [a]; omega
      · exact hD e a
theorem ev_notAbove {post : Int32 → SX → Prop} {K : Nat → List Nat} {t key : Nat} (I : ev_TI K sp ks bl sz lf nx pv sr rt) (ht : t < 2) (hK : (K t).length ≤ 96) (hk : key < 2 ^ 24)
    (P : ∀ r dp' pa' wy', ev_na (K t) key r → post (ev_o r) (fb, sp, dp', kp, lg, ls, fd, mn, pc, us, it, ln, ks, bl, sz, lf, nx, pv, sr, rt, pa', wy', oa, ov, bg)) :
    wpX_notAbove post (fb, sp, dp, kp, lg, ls, fd, mn, pc, us, it, ln, ks, bl, sz, lf, nx, pv, sr, rt, pa, wy, oa, ov, bg) (nI t) (nI key) := by
  obtain ⟨E, h, L, sl, ow, I⟩ := I
  refine ev_descend (dp := dp) I ht hK hk (fun c pa' wy' p w hlf _ _ hc0 => ?_)
  obtain ⟨H, T, S, A, Li, Ar⟩ := I
  obtain ⟨LA, LB, hL, hA, hB, _⟩ := hlf
  have hc : c < 200 := ((A.1 t 0 ht (by omega)).2 c hc0).1
  obtain ⟨h1, h2, h3⟩ := H c hc
  refine And.intro (vp_in_nI hc (by omega)) (fun x ex => ?_)
  rw [nI_clamp (by omega), h2, ev_xm_sub] at ex
  subst ex
  refine Exists.intro ((E c).length + 1) ?_
  refine ev_notAbove17 (E := E) H hc hk (fun C D hE hD hC => ?_) (E c).length (E c) [] rfl (by simp) (fun e he => by simp at he)
  have hKe : K t = ((LA.flatMap E).map Prod.fst ++ C.map Prod.fst) ++ (D.map Prod.fst ++ (LB.flatMap E).map Prod.fst) := by
    rw [← (T t ht).2.2.2.2.1, hL, List.flatMap_append, List.flatMap_cons, hE]; simp
  have hs := (T t ht).2.2.2.2.2
  have hhi : ∀ z, z ∈ D.map Prod.fst ++ (LB.flatMap E).map Prod.fst → key < z := by
    intro z hz
    rcases List.mem_append.mp hz with a | a
    · obtain ⟨e, he, rfl⟩ := List.mem_map.mp a
      exact hD e he
    · exact hB z a
  rcases List.eq_nil_or_concat C with hC0 | ⟨C', d, hC'⟩
  · subst hC0
    refine br_t (show (-1 : Int32) < 0 by decide) ⟨vp_in_nI hc (by omega), fun y ey => ?_⟩
    rw [nI_clamp (by omega)] at ey
    have hp := (Li t ht).2.2
    rw [hL, ev_pk_app, ev_pk_cons] at hp
    rw [hp.2.1] at ey
    rcases List.eq_nil_or_concat LA with hA0 | ⟨LA', q, hA'⟩
    · subst hA0
      subst ey
      refine br_f (show ¬ (0 : Int32) ≤ -1 by decide) (P none _ pa' wy' ?_)
      intro y hy
      rw [hKe] at hy
      exact hhi y hy
    · rw [List.concat_eq_append] at hA'
      subst hA'
      rw [ev_la_snoc] at ey
      have hqL : q ∈ L t 0 := by rw [hL]; simp
      have hq : q < 200 := ((A.1 t 0 ht (by omega)).2 q hqL).1
      have hy : y = nI q := ey
      subst hy
      have h1t : 1 ≤ h t := by
        by_cases c0 : h t = 0
        · obtain ⟨r, hr⟩ := (T t ht).1
          rw [c0, hL] at hr
          have := congrArg List.length hr
          simp at this
          omega
        · omega
      obtain ⟨q1, q2, q3⟩ := H q hq
      rcases List.eq_nil_or_concat (E q) with hEq | ⟨F, f, hEq⟩
      · exact absurd hEq (ev_sb_ne (S t ht) (by omega) h1t 0 q (by omega) hqL)
      · rw [List.concat_eq_append] at hEq
        have hlq : (E q).length = F.length + 1 := by rw [hEq]; simp
        refine br_t (nI_pos' (by omega)) ⟨vp_in_nI hq (by omega), ?_⟩
        rw [nI_clamp (n := q) (by omega), q2, hlq]
        refine ⟨ev_in5m (by omega), ?_⟩
        have qf := q3 F.length f (by rw [hEq]; exact ev_mid)
        rw [ev_cl5m (by omega), qf.2.2.1]
        refine P (some f.1) _ pa' wy' ?_
        have hK2 : K t = ((LA'.flatMap E).map Prod.fst ++ F.map Prod.fst) ++ f.1 :: (D.map Prod.fst ++ (LB.flatMap E).map Prod.fst) := by
          rw [hKe, List.flatMap_append, List.flatMap_cons, hEq]; simp
        rw [hK2] at hs ⊢
        refine ev_na_s hs hhi ?_
        have := hA f.1 (by rw [List.flatMap_append, List.flatMap_cons, hEq]; simp)
        omega
  · rw [List.concat_eq_append] at hC'
    subst hC'
    have hl : (E c).length = C'.length + D.length + 1 := by rw [hE]; simp; omega
    have q := h3 C'.length d (by rw [hE, List.append_assoc]; exact ev_mid)
    rw [show (C' ++ [d]).length = C'.length + 1 from by simp]
    refine br_f (nI_pos (n := C'.length) (by omega)) ⟨ev_in5 (b := C'.length) (by omega), ?_⟩
    show post (ks (5 * nI c + nI C'.length).toNatClampNeg) _
    rw [ev_cl5 (by omega), q.2.2.1]
    refine P (some d.1) _ pa' wy' ?_
    have hK2 : K t = ((LA.flatMap E).map Prod.fst ++ C'.map Prod.fst) ++ d.1 :: (D.map Prod.fst ++ (LB.flatMap E).map Prod.fst) := by
      rw [hKe]; simp
    rw [hK2] at hs ⊢
    exact ev_na_s hs hhi (hC d C' rfl)
end
end
section
/-! the steps of insert over the tree by levels, and the accounting -/
theorem ev_leaf_sorted {E : Nat → List (Nat × Nat)} {h : Nat} {L : Nat → List Nat} {K : List Nat} {n : Nat} (T : ev_ts E h L K) (hn : n ∈ L 0) : ((E n).map Prod.fst).Pairwise (· < ·) := by
  obtain ⟨A, B, hL⟩ := List.append_of_mem hn
  have s := T.2.2.2.2.2
  rw [← T.2.2.2.2.1, hL, List.flatMap_append, List.flatMap_cons, List.map_append, List.map_append, List.pairwise_append, List.pairwise_append] at s
  exact s.2.1.1
theorem ev_lr_split {E E' : Nat → List (Nat × Nat)} {h : Nat} {L : Nat → List Nat} {K : List Nat} {i p s n r : Nat} {P Q : List Nat} {C D : List (Nat × Nat)} {e0 e1 e2 e3 e4 : Nat × Nat}
    (T : ev_ts E h L K) (N : ev_nd h L) (hi : i < h) (hL : L (i + 1) = P ++ p :: Q) (hp : E p = C ++ (s, n) :: D) (hn : E n = [e0, e1, e2, e3, e4]) (hr : ∀ j, j ≤ h → r ∉ L j)
    (hE' : E' = ev_u (ev_u (ev_u E r [e3, e4]) n [e0, e1, e2]) p (C ++ (s, n) :: (e3.1, r) :: D)) :
    ∃ A B, L i = A ++ n :: B ∧ ev_ts E' h (ev_u L i (A ++ n :: r :: B)) K := by
  have hpL : p ∈ L (i + 1) := by rw [hL]; simp
  have hnL : n ∈ L i := ev_ts_child T (e := (s, n)) hi hpL (by rw [hp]; simp)
  have hnp : n ≠ p := fun e => by
    have := N.2 i (i + 1) n (by omega) (by omega) hnL (by rw [e]; exact hpL)
    omega
  have hnr : n ≠ r := fun e => hr i (by omega) (by rw [← e]; exact hnL)
  have hpr : p ≠ r := fun e => hr (i + 1) (by omega) (by rw [← e]; exact hpL)
  have En : E' n = [e0, e1, e2] := by rw [hE', ev_un hnp, ev_us]
  have Er : E' r = [e3, e4] := by rw [hE', ev_un (fun e => hpr e.symm), ev_un (fun e => hnr e.symm), ev_us]
  have key := ev_lr (E' := E') (M := [(s, n)]) (M' := [(s, n), (e3.1, r)]) (M1 := []) (M1' := [(e3.1, r)]) (s0 := s) (n0 := n) (C := C) (D := D) T N hi hL (by rw [hp]; simp) (by rw [hE', ev_us]; simp)
    (fun m h1 h2 h3 => by
      simp only [List.map_cons, List.map_nil, List.mem_cons, List.not_mem_nil, or_false] at h2 h3
      rw [hE', ev_un h1, ev_un h2, ev_un (fun e => h3 (Or.inr e))])
    (fun m hm => by
      simp only [List.map_cons, List.map_nil, List.mem_cons, List.not_mem_nil, or_false] at hm
      rcases hm with a | a
      · left; rw [a]; simp
      · right; rw [a]; exact hr)
    (by simp [En, Er, hn]) rfl rfl (by rw [hn]; simp) (by rw [ev_fk_cons En, ev_fk_cons hn])
    (fun _ e he => by
      have : e = (e3.1, r) := by simpa using he
      subst this
      exact (ev_fk_cons Er).symm)
    (fun h0 => by
      subst h0
      have so := ev_leaf_sorted T hnL
      rw [hn] at so
      simp only [List.map_cons, List.map_nil, List.pairwise_cons, List.mem_cons, List.not_mem_nil, or_false, forall_eq_or_imp, forall_eq] at so
      refine ⟨?_, fun e he => ?_⟩
      · refine List.pairwise_cons.mpr ⟨fun b hb => ?_, by simp⟩
        have : b = (e3.1, r) := by simpa using hb
        subst this
        refine ⟨fun y hy => ?_, fun y hy => ?_⟩
        · rw [show E' (s, n).2 = [e0, e1, e2] from En] at hy
          simp only [List.map_cons, List.map_nil, List.mem_cons, List.not_mem_nil, or_false] at hy
          show y < e3.1
          omega
        · rw [show E' (e3.1, r).2 = [e3, e4] from Er] at hy
          simp only [List.map_cons, List.map_nil, List.mem_cons, List.not_mem_nil, or_false] at hy
          show e3.1 ≤ y
          omega
      · have : e = (e3.1, r) := by simpa using he
        subst this
        exact ⟨e3.1, by simp [hn], Nat.le_refl _⟩)
  refine ⟨ev_sn E P ++ C.map Prod.snd, D.map Prod.snd ++ ev_sn E Q, by rw [key.1]; simp, ?_⟩
  have e : ev_sn E P ++ (C ++ [(s, n), (e3.1, r)] ++ D).map Prod.snd ++ ev_sn E Q = ev_sn E P ++ C.map Prod.snd ++ n :: r :: (D.map Prod.snd ++ ev_sn E Q) := by simp
  rw [← e]
  exact key.2
theorem ev_nodup_ins {A B : List Nat} {n r : Nat} (h : (A ++ n :: B).Nodup) (hr : r ∉ A ++ n :: B) : (A ++ n :: r :: B).Nodup := by
  rw [List.nodup_append, List.nodup_cons] at h
  rw [List.nodup_append, List.nodup_cons, List.nodup_cons]
  simp only [List.mem_append, List.mem_cons, not_or] at hr
  refine ⟨h.1, ⟨fun e => ?_, hr.2.2, h.2.1.2⟩, fun a ha b hb => ?_⟩
  · rcases List.mem_cons.mp e with e | e
    · exact hr.2.1 e.symm
    · exact h.2.1.1 e
  · rcases List.mem_cons.mp hb with e | e
    · exact h.2.2 a ha b (by rw [e]; simp)
    · rcases List.mem_cons.mp e with e | e
      · intro e2; exact hr.1 (by rw [← e, ← e2]; exact ha)
      · exact h.2.2 a ha b (List.mem_cons_of_mem _ e)
theorem ev_tot_t {h : Nat → Nat} {L : Nat → Nat → List Nat} {t i : Nat} {l : List Nat} (ht : t < 2) (hi : i ≤ h t) :
    ev_tot ((ev_u L t (ev_u (L t) i l)) 0) (h 0) + ev_tot ((ev_u L t (ev_u (L t) i l)) 1) (h 1) + (L t i).length = ev_tot (L 0) (h 0) + ev_tot (L 1) (h 1) + l.length := by
  have c : t = 0 ∨ t = 1 := by omega
  rcases c with c | c
  · subst c
    rw [ev_us, ev_un (by omega)]
    have := ev_tot_u (L := L 0) (l := l) hi
    omega
  · subst c
    rw [ev_us, ev_un (by omega)]
    have := ev_tot_u (L := L 1) (l := l) hi
    omega
theorem ev_ac_ins {h : Nat → Nat} {L : Nat → Nat → List Nat} {sl : List Nat} {ow : Nat → Nat} {t i n r : Nat} {A B : List Nat} (a : ev_ac h L (sl ++ [r]) ow) (ht : t < 2) (hi : i ≤ h t) (hL : L t i = A ++ n :: B) :
    ev_ac h (ev_u L t (ev_u (L t) i (A ++ n :: r :: B))) sl (ev_u ow r (2 * i + t + 1)) := by
  have hrs : r ∈ sl ++ [r] := by simp
  have hrf : ∀ t' j, t' < 2 → j ≤ h t' → r ∉ L t' j := fun t' j h1 h2 h3 => ev_ac_sl a h1 h2 h3 hrs
  have nds := a.2.1
  rw [List.nodup_append] at nds
  refine ⟨fun t' j ht' hj => ?_, nds.1, fun m hm => ?_, ?_⟩
  · have gen : ∀ m, m ∈ L t' j → m < 200 ∧ ev_u ow r (2 * i + t + 1) m = 2 * j + t' + 1 := by
      intro m hm
      rw [ev_un (fun e => hrf t' j ht' hj (by rw [← e]; exact hm))]
      exact (a.1 t' j ht' hj).2 m hm
    by_cases c1 : t' = t
    · subst c1
      rw [ev_us]
      by_cases c2 : j = i
      · subst c2
        rw [ev_us]
        have nd := (a.1 t' j ht' hj).1
        rw [hL] at nd
        refine ⟨ev_nodup_ins nd (by rw [← hL]; exact hrf t' j ht' hj), fun m hm => ?_⟩
        by_cases c3 : m = r
        · subst c3
          exact ⟨(a.2.2.1 m hrs).1, ev_us⟩
        · refine gen m ?_
          rw [hL]
          simp only [List.mem_append, List.mem_cons] at hm ⊢
          rcases hm with x | x | x | x
          · exact Or.inl x
          · exact Or.inr (Or.inl x)
          · exact absurd x c3
          · exact Or.inr (Or.inr x)
      · rw [ev_un c2]; exact ⟨(a.1 t' j ht' hj).1, gen⟩
    · rw [ev_un c1]; exact ⟨(a.1 t' j ht' hj).1, gen⟩
  · have q := a.2.2.1 m (by simp [hm])
    rw [ev_un (fun e => nds.2.2 m hm r (by simp) e)]
    exact q
  · have q := a.2.2.2
    have tt := ev_tot_t (L := L) (l := A ++ n :: r :: B) ht hi
    rw [hL] at tt
    simp only [List.length_append, List.length_cons, List.length_nil] at q tt
    omega
theorem ev_ac_grow {h : Nat → Nat} {L : Nat → Nat → List Nat} {sl : List Nat} {ow : Nat → Nat} {t p : Nat} (a : ev_ac h L (sl ++ [p]) ow) (ht : t < 2) :
    ev_ac (ev_u h t (h t + 1)) (ev_u L t (ev_u (L t) (h t + 1) [p])) sl (ev_u ow p (2 * (h t + 1) + t + 1)) := by
  have hrs : p ∈ sl ++ [p] := by simp
  have hrf : ∀ t' j, t' < 2 → j ≤ h t' → p ∉ L t' j := fun t' j h1 h2 h3 => ev_ac_sl a h1 h2 h3 hrs
  have nds := a.2.1
  rw [List.nodup_append] at nds
  have gen : ∀ t' j, t' < 2 → j ≤ h t' → ∀ m, m ∈ L t' j → m < 200 ∧ ev_u ow p (2 * (h t + 1) + t + 1) m = 2 * j + t' + 1 := by
    intro t' j ht' hj m hm
    rw [ev_un (fun e => hrf t' j ht' hj (by rw [← e]; exact hm))]
    exact (a.1 t' j ht' hj).2 m hm
  refine ⟨fun t' j ht' hj => ?_, nds.1, fun m hm => ?_, ?_⟩
  · by_cases c1 : t' = t
    · subst c1
      rw [ev_us] at hj
      rw [ev_us]
      by_cases c2 : j = h t' + 1
      · subst c2
        rw [ev_us]
        refine ⟨by simp, fun m hm => ?_⟩
        have : m = p := by simpa using hm
        subst this
        exact ⟨(a.2.2.1 m hrs).1, ev_us⟩
      · rw [ev_un c2]; exact ⟨(a.1 t' j ht' (by omega)).1, gen t' j ht' (by omega)⟩
    · rw [ev_un c1] at hj
      rw [ev_un c1]; exact ⟨(a.1 t' j ht' hj).1, gen t' j ht' hj⟩
  · have q := a.2.2.1 m (by simp [hm])
    rw [ev_un (fun e => nds.2.2 m hm p (by simp) e)]
    exact q
  · have q := a.2.2.2
    have e1 : ev_tot (ev_u (L t) (h t + 1) [p]) (h t + 1) = ev_tot (L t) (h t) + 1 := by
      show ev_tot (ev_u (L t) (h t + 1) [p]) (h t) + ((ev_u (L t) (h t + 1) [p]) (h t + 1)).length = _
      rw [ev_us, ev_tot_c (L := L t) (fun j hj => by rw [ev_un (by omega)])]; rfl
    simp only [List.length_append, List.length_cons, List.length_nil] at q
    have c : t = 0 ∨ t = 1 := by omega
    rcases c with c | c
    · subst c
      rw [ev_us, ev_us, ev_un (by omega), ev_un (by omega), e1]; omega
    · subst c
      rw [ev_us, ev_us, ev_un (by omega), ev_un (by omega), e1]; omega
/-- bounds of sizes over a split -/
theorem ev_sb_split {E E' : Nat → List (Nat × Nat)} {h : Nat} {L : Nat → List Nat} {i p s n r : Nat} {A B : List Nat} {C D : List (Nat × Nat)} {e0 e1 e2 e3 e4 : Nat × Nat}
    (S : ev_sb E h L n 2 5) (N : ev_nd h L) (hi : i < h) (hp : p ∈ L (i + 1)) (hL : L i = A ++ n :: B) (hEp : E p = C ++ (s, n) :: D) (hr : ∀ j, j ≤ h → r ∉ L j)
    (hE' : E' = ev_u (ev_u (ev_u E r [e3, e4]) n [e0, e1, e2]) p (C ++ (s, n) :: (e3.1, r) :: D)) :
    ev_sb E' h (ev_u L i (A ++ n :: r :: B)) p 2 5 := by
  have hnL : n ∈ L i := by rw [hL]; simp
  have hnp : n ≠ p := fun e => by
    have := N.2 i (i + 1) n (by omega) (by omega) hnL (by rw [e]; exact hp)
    omega
  have hnr : n ≠ r := fun e => hr i (by omega) (by rw [← e]; exact hnL)
  have hpr : p ≠ r := fun e => hr (i + 1) (by omega) (by rw [← e]; exact hp)
  have En : E' n = [e0, e1, e2] := by rw [hE', ev_un hnp, ev_us]
  have Er : E' r = [e3, e4] := by rw [hE', ev_un (fun e => hpr e.symm), ev_un (fun e => hnr e.symm), ev_us]
  have Ep : E' p = C ++ (s, n) :: (e3.1, r) :: D := by rw [hE', ev_us]
  have old : ∀ j m, j ≤ h → m ∈ L j → (m ≠ p → (h = 0 ∨ 2 ≤ (E' m).length) ∧ (E' m).length ≤ 4) ∧ (m = p → (h = 0 ∨ 2 ≤ (E' m).length) ∧ (E' m).length ≤ 5) := by
    intro j m hj hm
    refine ⟨fun e => ?_, fun e => ?_⟩
    · by_cases c : m = n
      · rw [c, En]; simp
      · rw [hE', ev_un e, ev_un c, ev_un (fun e => hr j hj (by rw [← e]; exact hm))]
        exact (S j m hj hm).1 c
    · subst e
      have q := (S (i + 1) m (by omega) hp).1 (fun e => hnp e.symm)
      rw [hEp] at q
      rw [Ep]
      simp only [List.length_append, List.length_cons] at q ⊢
      omega
  intro j m hj hm
  by_cases c : j = i
  · subst c
    rw [ev_us] at hm
    by_cases c2 : m = r
    · subst c2
      refine ⟨fun _ => ?_, fun e => absurd e.symm hpr⟩
      rw [Er]; simp
    · refine old j m hj ?_
      rw [hL]
      simp only [List.mem_append, List.mem_cons] at hm ⊢
      rcases hm with x | x | x | x
      · exact Or.inl x
      · exact Or.inr (Or.inl x)
      · exact absurd x c2
      · exact Or.inr (Or.inr x)
  · rw [ev_un c] at hm
    exact old j m hj hm
end
section
/-! the invariant over a split, in a tree and at its root -/
section
variable {sp : Int32} {ks bl sz lf nx pv sr rt ks' bl' sz' nx' pv' : Nat → Int32}
theorem ev_u_comm {α : Type} {f : Nat → α} {a b : Nat} {x y : α} (h : a ≠ b) : ev_u (ev_u f a x) b y = ev_u (ev_u f b y) a x := by
  funext m
  by_cases c : m = b
  · subst c; rw [ev_us, ev_un (fun e => h e.symm), ev_us]
  · rw [ev_un c]
    by_cases c2 : m = a
    · subst c2; rw [ev_us, ev_us]
    · rw [ev_un c2, ev_un c2, ev_un c]
theorem ev_u_u {α : Type} {f : Nat → α} {a : Nat} {x y : α} : ev_u (ev_u f a x) a y = ev_u f a y := by
  funext m
  by_cases c : m = a
  · subst c; rw [ev_us, ev_us]
  · rw [ev_un c, ev_un c, ev_un c]
theorem ev_tI_split {E E' : Nat → List (Nat × Nat)} {h : Nat → Nat} {L : Nat → Nat → List Nat} {sl : List Nat} {ow : Nat → Nat} {K : Nat → List Nat} {t i n p r s : Nat} {A B : List Nat} {C D : List (Nat × Nat)} {e0 e1 e2 e3 e4 : Nat × Nat}
    (I : ev_tI E h L (sl ++ [r]) ow n 2 5 K sp ks bl sz lf nx pv sr rt) (ht : t < 2) (hi : i < h t) (hpL : p ∈ L t (i + 1)) (hEp : E p = C ++ (s, n) :: D) (hL : L t i = A ++ n :: B)
    (hE' : E' = ev_u (ev_u (ev_u E r [e3, e4]) n [e0, e1, e2]) p (C ++ (s, n) :: (e3.1, r) :: D))
    (T' : ev_ts E' (h t) (ev_u (L t) i (A ++ n :: r :: B)) (K t)) (H' : ev_hp E' ks' bl' sz')
    (l0 : i ≠ 0 → ∀ m, m ≠ r → nx' m = nx m ∧ pv' m = pv m) (l1 : i = 0 → ev_lS nx pv nx' pv' n r (ev_hd B none)) :
    ev_tI E' h (ev_u L t (ev_u (L t) i (A ++ n :: r :: B))) sl (ev_u ow r (2 * i + t + 1)) p 2 5 K (nI sl.length) ks' bl' sz' (upd lf r (lf n)) nx' pv' sr rt := by
  obtain ⟨H, T, S, a, Li, Ar⟩ := I
  have hnL : n ∈ L t i := by rw [hL]; simp
  have hrs : r ∈ sl ++ [r] := by simp
  have hrf : ∀ t' j, t' < 2 → j ≤ h t' → r ∉ L t' j := fun t' j h1 h2 h3 => ev_ac_sl a h1 h2 h3 hrs
  have oth : ∀ t' j m, t' < 2 → t' ≠ t → j ≤ h t' → m ∈ L t' j → m ≠ n ∧ m ≠ p ∧ m ≠ r := by
    intro t' j m ht' hne hj hm
    refine ⟨fun e => ?_, fun e => ?_, fun e => hrf t' j ht' hj (by rw [← e]; exact hm)⟩
    · exact hne (ev_ac_tt (j := i) a ht' ht hj (by omega) hm (by rw [e]; exact hnL)).1
    · exact hne (ev_ac_tt (j := i + 1) a ht' ht hj (by omega) hm (by rw [e]; exact hpL)).1
  have ag : ∀ t' j m, t' < 2 → t' ≠ t → j ≤ h t' → m ∈ L t' j → E' m = E m := by
    intro t' j m ht' hne hj hm
    obtain ⟨q1, q2, q3⟩ := oth t' j m ht' hne hj hm
    rw [hE', ev_un q2, ev_un q1, ev_un q3]
  have hoB : ∀ m, ev_hd B none = some m → m ∈ L t i := by
    intro m hm
    obtain ⟨l', rfl⟩ := ev_hd_mem hm
    rw [hL]; simp
  refine ⟨H', fun t' ht' => ?_, fun t' ht' => ?_, ev_ac_ins a ht (by omega) hL, fun t' ht' => ?_, rfl, fun j m hm => ?_, fun t' ht' => ?_⟩
  · by_cases c : t' = t
    · subst c; rw [ev_us]; exact T'
    · rw [ev_un c]; exact ev_ts_c (T t' ht') (fun j m hj hm => ag t' j m ht' c hj hm)
  · by_cases c : t' = t
    · subst c; rw [ev_us]
      exact ev_sb_split (S t' ht) (ev_ac_nd a ht) hi hpL hL hEp (fun j hj => hrf t' j ht hj) hE'
    · rw [ev_un c]
      intro j m hj hm
      obtain ⟨q1, q2, q3⟩ := oth t' j m ht' c hj hm
      rw [ag t' j m ht' c hj hm]
      exact ⟨fun _ => (S t' ht' j m hj hm).1 q1, fun e => absurd e q2⟩
  · have lfo : ∀ j m, j ≤ h t' → m ∈ L t' j → upd lf r (lf n) m = if j = 0 then 1 else 0 := by
      intro j m hj hm
      rw [pk_un (fun e => hrf t' j ht' hj (by rw [← e]; exact hm))]
      exact (Li t' ht').1 j m hj hm
    by_cases c : t' = t
    · subst c
      rw [ev_us]
      refine ⟨fun j m hj hm => ?_, ?_⟩
      · by_cases c2 : j = i
        · subst c2
          rw [ev_us] at hm
          by_cases c3 : m = r
          · subst c3
            rw [pk_us]
            exact (Li t' ht').1 j n hj hnL
          · refine lfo j m hj ?_
            rw [hL]
            simp only [List.mem_append, List.mem_cons] at hm ⊢
            rcases hm with x | x | x | x
            · exact Or.inl x
            · exact Or.inr (Or.inl x)
            · exact absurd x c3
            · exact Or.inr (Or.inr x)
        · rw [ev_un c2] at hm
          exact lfo j m hj hm
      · by_cases c2 : i = 0
        · subst c2
          rw [ev_us]
          have nd := (a.1 t' 0 ht (by omega)).1
          have k1 := (Li t' ht').2
          rw [hL] at nd k1
          exact ev_lS_ok nd (by rw [← hL]; exact hrf t' 0 ht (by omega)) (l1 rfl) k1.1 k1.2
        · rw [ev_un (fun e => c2 e.symm)]
          have mr : ∀ m, m ∈ L t' 0 → m ≠ r := fun m hm e => hrf t' 0 ht (by omega) (by rw [← e]; exact hm)
          exact ⟨ev_nk_c (fun m hm => (l0 c2 m (mr m hm)).1) (Li t' ht').2.1, ev_pk_c (fun m hm => (l0 c2 m (mr m hm)).2) (Li t' ht').2.2⟩
    · rw [ev_un c]
      refine ⟨lfo, ?_⟩
      by_cases c2 : i = 0
      · subst c2
        obtain ⟨q1, q2, q3, q4, q5, q6⟩ := l1 rfl
        refine ⟨ev_nk_c (fun m hm => ?_) (Li t' ht').2.1, ev_pk_c (fun m hm => ?_) (Li t' ht').2.2⟩
        · obtain ⟨o1, o2, o3⟩ := oth t' 0 m ht' c (by omega) hm
          exact q3 m o1 o3
        · obtain ⟨o1, o2, o3⟩ := oth t' 0 m ht' c (by omega) hm
          exact q6 m o3 (fun e => c (ev_ac_tt a ht' ht (by omega) (by omega) hm (hoB m e)).1)
      · have mr : ∀ m, m ∈ L t' 0 → m ≠ r := fun m hm => (oth t' 0 m ht' c (by omega) hm).2.2
        exact ⟨ev_nk_c (fun m hm => (l0 c2 m (mr m hm)).1) (Li t' ht').2.1, ev_pk_c (fun m hm => (l0 c2 m (mr m hm)).2) (Li t' ht').2.2⟩
  · refine Ar.2.1 j m ?_
    rw [List.getElem?_append_left (List.getElem?_eq_some_iff.mp hm).1]
    exact hm
  · by_cases c : t' = t
    · subst c; rw [ev_us, ev_un (by omega)]; exact Ar.2.2 t' ht'
    · rw [ev_un c]; exact Ar.2.2 t' ht'
theorem ev_tI_root {E E' : Nat → List (Nat × Nat)} {h : Nat → Nat} {L : Nat → Nat → List Nat} {sl : List Nat} {ow : Nat → Nat} {K : Nat → List Nat} {t n p r : Nat} {e0 e1 e2 e3 e4 : Nat × Nat}
    (I : ev_tI E h L (sl ++ [p] ++ [r]) ow n 2 5 K sp ks bl sz lf nx pv sr rt) (ht : t < 2) (hL : L t (h t) = [n]) (hEn : E n = [e0, e1, e2, e3, e4])
    (hE' : E' = ev_u (ev_u (ev_u E r [e3, e4]) n [e0, e1, e2]) p [(e0.1, n), (e3.1, r)])
    (H' : ev_hp E' ks' bl' sz')
    (l0 : h t ≠ 0 → ∀ m, m ≠ r → m ≠ p → nx' m = nx m ∧ pv' m = pv m) (l1 : h t = 0 → nx' n = nI r ∧ nx' r = -1 ∧ pv' n = pv n ∧ pv' r = nI n ∧ ∀ m, m ≠ n → m ≠ r → m ≠ p → nx' m = nx m ∧ pv' m = pv m) :
    ev_TI K (nI sl.length) ks' bl' sz' (upd (upd lf r (lf n)) p 0) nx' pv' sr (upd rt t (nI p)) := by
  obtain ⟨H, T, S, a, Li, Ar⟩ := I
  have hnL : n ∈ L t (h t) := by rw [hL]; simp
  have hrs : r ∈ sl ++ [p] ++ [r] := by simp
  have hps : p ∈ sl ++ [p] ++ [r] := by simp
  have hrf : ∀ t' j, t' < 2 → j ≤ h t' → r ∉ L t' j := fun t' j h1 h2 h3 => ev_ac_sl a h1 h2 h3 hrs
  have hpf : ∀ t' j, t' < 2 → j ≤ h t' → p ∉ L t' j := fun t' j h1 h2 h3 => ev_ac_sl a h1 h2 h3 hps
  have hpr : p ≠ r := by
    have nd := a.2.1
    rw [List.nodup_append] at nd
    exact nd.2.2 p (by simp) r (by simp)
  have hnp : n ≠ p := fun e => hpf t (h t) ht (by omega) (by rw [← e]; exact hnL)
  have hnr : n ≠ r := fun e => hrf t (h t) ht (by omega) (by rw [← e]; exact hnL)
  have oth : ∀ t' j m, t' < 2 → t' ≠ t → j ≤ h t' → m ∈ L t' j → m ≠ n ∧ m ≠ p ∧ m ≠ r := by
    intro t' j m ht' hne hj hm
    refine ⟨fun e => ?_, fun e => hpf t' j ht' hj (by rw [← e]; exact hm), fun e => hrf t' j ht' hj (by rw [← e]; exact hm)⟩
    exact hne (ev_ac_tt (j := h t) a ht' ht hj (by omega) hm (by rw [e]; exact hnL)).1
  have ag : ∀ t' j m, t' < 2 → t' ≠ t → j ≤ h t' → m ∈ L t' j → E' m = E m := by
    intro t' j m ht' hne hj hm
    obtain ⟨q1, q2, q3⟩ := oth t' j m ht' hne hj hm
    rw [hE', ev_un q2, ev_un q1, ev_un q3]
  -- the tree grown by a root above n, then split
  have G := ev_grow (k := e0.1) (p := p) (T t ht) hL (fun _ => (ev_fk_cons hEn).symm) (fun j hj => hpf t j ht hj)
  have N := ev_ac_nd a ht
  have N' : ev_nd (h t + 1) (ev_u (L t) (h t + 1) [p]) := by
    refine ⟨fun j hj => ?_, fun i j m hi hj h1 h2 => ?_⟩
    · by_cases c : j = h t + 1
      · subst c; rw [ev_us]; simp
      · rw [ev_un c]; exact N.1 j (by omega)
    · by_cases ci : i = h t + 1
      · by_cases cj : j = h t + 1
        · omega
        · rw [ci, ev_us] at h1
          rw [ev_un cj] at h2
          have : m = p := by simpa using h1
          exact absurd (by rw [← this]; exact h2) (hpf t j ht (by omega))
      · by_cases cj : j = h t + 1
        · rw [cj, ev_us] at h2
          rw [ev_un ci] at h1
          have : m = p := by simpa using h2
          exact absurd (by rw [← this]; exact h1) (hpf t i ht (by omega))
        · rw [ev_un ci] at h1
          rw [ev_un cj] at h2
          exact N.2 i j m (by omega) (by omega) h1 h2
  have hrf' : ∀ j, j ≤ h t + 1 → r ∉ (ev_u (L t) (h t + 1) [p]) j := by
    intro j hj
    by_cases c : j = h t + 1
    · subst c; rw [ev_us]; simp; exact fun e => hpr e.symm
    · rw [ev_un c]; exact hrf t j ht (by omega)
  have hE2 : E' = ev_u (ev_u (ev_u (ev_u E p [(e0.1, n)]) r [e3, e4]) n [e0, e1, e2]) p ([] ++ (e0.1, n) :: (e3.1, r) :: []) := by
    rw [ev_u_comm (f := E) hpr, ev_u_comm (f := ev_u E r [e3, e4]) (fun e => hnp e.symm), ev_u_u, hE']
    rfl
  obtain ⟨A, B, hAB, T'⟩ := ev_lr_split (P := []) (Q := []) (C := []) (D := []) (E' := E') (i := h t) (s := e0.1) G N' (by omega) (by rw [ev_us]; rfl) (by rw [ev_us]; rfl) (by rw [ev_un hnp]; exact hEn) hrf' hE2
  have hA : A = [] ∧ B = [] := by
    rw [ev_un (by omega), hL] at hAB
    have := congrArg List.length hAB
    simp at this
    constructor
    · exact List.eq_nil_of_length_eq_zero (by omega)
    · exact List.eq_nil_of_length_eq_zero (by omega)
  obtain ⟨rfl, rfl⟩ := hA
  have a1 := ev_ac_ins (A := []) (B := []) a ht (Nat.le_refl _) hL
  have a2 := ev_ac_grow a1 ht
  rw [ev_us, ev_u_u] at a2
  rw [ev_u_comm (by omega)] at T'
  have En : E' n = [e0, e1, e2] := by rw [hE', ev_un hnp, ev_us]
  have Er : E' r = [e3, e4] := by rw [hE', ev_un (fun e => hpr e.symm), ev_un (fun e => hnr e.symm), ev_us]
  have Ep : E' p = [(e0.1, n), (e3.1, r)] := by rw [hE', ev_us]
  refine ⟨E', _, _, sl, _, H', fun t' ht' => ?_, fun t' ht' => ?_, a2, fun t' ht' => ?_, rfl, fun j m hm => ?_, fun t' ht' => ?_⟩
  · by_cases c : t' = t
    · subst c; rw [ev_us, ev_us]; exact T'
    · rw [ev_un c, ev_un c]; exact ev_ts_c (T t' ht') (fun j m hj hm => ag t' j m ht' c hj hm)
  · by_cases c : t' = t
    · subst c
      rw [ev_us, ev_us]
      have good : ∀ j m, j ≤ h t' + 1 → m ∈ ev_u (ev_u (L t') (h t') ([] ++ [n, r])) (h t' + 1) [p] j → 2 ≤ (E' m).length ∧ (E' m).length ≤ 4 := by
        intro j m hj hm
        by_cases c1 : j = h t' + 1
        · subst c1
          rw [ev_us] at hm
          have : m = p := by simpa using hm
          rw [this, Ep]; simp
        · rw [ev_un c1] at hm
          by_cases c2 : j = h t'
          · subst c2
            rw [ev_us] at hm
            have : m = n ∨ m = r := by simpa using hm
            rcases this with q | q
            · rw [q, En]; simp
            · rw [q, Er]; simp
          · rw [ev_un c2] at hm
            have m1 : m ≠ n := fun e => c2 (N.2 j (h t') m (by omega) (by omega) hm (by rw [e]; exact hnL))
            have m2 : m ≠ p := fun e => hpf t' j ht (by omega) (by rw [← e]; exact hm)
            have m3 : m ≠ r := fun e => hrf t' j ht (by omega) (by rw [← e]; exact hm)
            rw [hE', ev_un m2, ev_un m1, ev_un m3]
            have := (S t' ht j m (by omega) hm).1 m1
            omega
      intro j m hj hm
      have g := good j m hj hm
      exact ⟨fun _ => ⟨Or.inr g.1, g.2⟩, fun _ => ⟨Or.inr g.1, g.2⟩⟩
    · rw [ev_un c, ev_un c]
      intro j m hj hm
      obtain ⟨q1, q2, q3⟩ := oth t' j m ht' c hj hm
      rw [ag t' j m ht' c hj hm]
      exact ⟨fun _ => (S t' ht' j m hj hm).1 q1, fun _ => (S t' ht' j m hj hm).1 q1⟩
  · have lfo : ∀ j m, j ≤ h t' → m ∈ L t' j → upd (upd lf r (lf n)) p 0 m = if j = 0 then 1 else 0 := by
      intro j m hj hm
      rw [pk_un (fun e => hpf t' j ht' hj (by rw [← e]; exact hm)), pk_un (fun e => hrf t' j ht' hj (by rw [← e]; exact hm))]
      exact (Li t' ht').1 j m hj hm
    by_cases c : t' = t
    · subst c
      rw [ev_us, ev_us]
      refine ⟨fun j m hj hm => ?_, ?_⟩
      · by_cases c1 : j = h t' + 1
        · subst c1
          rw [ev_us] at hm
          have : m = p := by simpa using hm
          rw [this, pk_us, if_neg (by omega)]
        · rw [ev_un c1] at hm
          by_cases c2 : j = h t'
          · subst c2
            rw [ev_us] at hm
            have : m = n ∨ m = r := by simpa using hm
            rcases this with q | q
            · rw [q]; exact lfo (h t') n (by omega) hnL
            · rw [q, pk_un (fun e => hpr e.symm), pk_us]
              exact (Li t' ht').1 (h t') n (by omega) hnL
          · rw [ev_un c2] at hm
            exact lfo j m (by omega) hm
      · rw [ev_un (by omega)]
        by_cases c2 : h t' = 0
        · obtain ⟨q1, q2, q3, q4, q5⟩ := l1 c2
          have k1 := (Li t' ht').2
          rw [c2] at hL
          rw [hL] at k1
          rw [c2, ev_us]
          have k2 := k1.2
          rw [ev_pk_cons] at k2
          refine ⟨⟨q1, q2, trivial⟩, ?_⟩
          show ev_pk pv' none [n, r]
          rw [ev_pk_cons, ev_pk_cons]
          exact ⟨by rw [q3]; exact k2.1, q4, by unfold ev_pk; trivial⟩
        · rw [ev_un (fun e => c2 e.symm)]
          have mm : ∀ m, m ∈ L t' 0 → nx' m = nx m ∧ pv' m = pv m := fun m hm => l0 c2 m (fun e => hrf t' 0 ht (by omega) (by rw [← e]; exact hm)) (fun e => hpf t' 0 ht (by omega) (by rw [← e]; exact hm))
          exact ⟨ev_nk_c (fun m hm => (mm m hm).1) (Li t' ht').2.1, ev_pk_c (fun m hm => (mm m hm).2) (Li t' ht').2.2⟩
    · rw [ev_un c, ev_un c]
      have mm : ∀ m, m ∈ L t' 0 → nx' m = nx m ∧ pv' m = pv m := by
        intro m hm
        obtain ⟨o1, o2, o3⟩ := oth t' 0 m ht' c (by omega) hm
        by_cases c2 : h t = 0
        · exact (l1 c2).2.2.2.2 m o1 o3 o2
        · exact l0 c2 m o3 o2
      exact ⟨lfo, ev_nk_c (fun m hm => (mm m hm).1) (Li t' ht').2.1, ev_pk_c (fun m hm => (mm m hm).2) (Li t' ht').2.2⟩
  · refine Ar.2.1 j m ?_
    rw [List.append_assoc, List.getElem?_append_left (List.getElem?_eq_some_iff.mp hm).1]
    exact hm
  · by_cases c : t' = t
    · subst c; rw [ev_us, ev_us, ev_us, pk_us]; exact ⟨p, rfl, rfl⟩
    · rw [ev_un c, ev_un c, pk_un c]; exact Ar.2.2 t' ht'
end
end
section
/-! the walk of insert -/
section
variable {fb sp dp kp lg ls fd mn : Int32} {pc us it ln ks bl sz lf nx pv sr rt pa wy oa ov bg : Nat → Int32}
theorem ev_len5 {l : List (Nat × Nat)} (h : l.length = 5) : ∃ e0 e1 e2 e3 e4, l = [e0, e1, e2, e3, e4] := by
  match l, h with
  | [e0, e1, e2, e3, e4], _ => exact ⟨e0, e1, e2, e3, e4, rfl⟩
theorem ev_snoc {l : List Nat} {k : Nat} (h : k + 1 ≤ l.length) : ∃ s r, l = s ++ [r] ∧ k ≤ s.length := by
  rcases List.eq_nil_or_concat l with e | ⟨s, r, e⟩
  · rw [e] at h; simp at h
  · rw [List.concat_eq_append] at e
    rw [e] at h
    exact ⟨s, r, e, by simpa using h⟩
theorem ev_ac_lt {h : Nat → Nat} {L : Nat → Nat → List Nat} {sl : List Nat} {ow : Nat → Nat} (a : ev_ac h L sl ow) {t i n : Nat} (ht : t < 2) (hi : i ≤ h t) (hn : n ∈ L t i) : n < 200 := ((a.1 t i ht hi).2 n hn).1
theorem ev_insert52 {post : SX → Prop} {h : Nat → Nat} {K : Nat → List Nat} {t : Nat} {p w : Nat → Nat} (ht : t < 2) (hK : ∀ t', t' < 2 → (K t').length ≤ 96)
    (HP : ∀ sp' dp' ks' bl' sz' lf' nx' pv' rt', ev_TI K sp' ks' bl' sz' lf' nx' pv' sr rt' → post (fb, sp', dp', kp, lg, ls, fd, mn, pc, us, it, ln, ks', bl', sz', lf', nx', pv', sr, rt', pa, wy, oa, ov, bg)) :
    ∀ (d i : Nat) (E : Nat → List (Nat × Nat)) (L : Nat → Nat → List Nat) (sl : List Nat) (ow : Nat → Nat) (n : Nat) (sp : Int32) (ks bl sz lf nx pv rt : Nat → Int32), i + d = h t →
      ev_tI E h L sl ow n 2 5 K sp ks bl sz lf nx pv sr rt → n ∈ L t i → ev_pth E (h t) (L t) pa wy p w i → p i = n →
      wX_insert_52 post (nI t) (d + 1) (nI n) fb sp (nI d) kp lg ls fd mn pc us it ln ks bl sz lf nx pv sr rt pa wy oa ov bg := by
  intro d
  induction d with
  | zero =>
    intro i E L sl ow n sp ks bl sz lf nx pv rt hid I hn hp hpi
    have hi : i = h t := by omega
    subst hi
    have I0 := I
    obtain ⟨H, T, S, a, Li, Ar⟩ := I
    have n2 := ev_ac_lt a ht (Nat.le_refl _) hn
    obtain ⟨h1, h2, h3⟩ := H n n2
    refine And.intro (vp_in_nI n2 (by omega)) ?_
    rw [nI_clamp (by omega), h2]
    by_cases c5 : (E n).length = 5
    · obtain ⟨e0, e1, e2, e3, e4, hEn⟩ := ev_len5 c5
      have c0 := ev_tI_cnt (T 0 (by omega)) (S 0 (by omega)) (Nat.le_refl _) (hK 0 (by omega))
      have c1 := ev_tI_cnt (T 1 (by omega)) (S 1 (by omega)) (Nat.le_refl _) (hK 1 (by omega))
      have ctot := a.2.2.2
      obtain ⟨s1, r, hs1, hl1⟩ := ev_snoc (l := sl) (k := 1) (by omega)
      obtain ⟨s2, q, hs2, hl2⟩ := ev_snoc (l := s1) (k := 0) (by omega)
      subst hs2
      subst hs1
      obtain ⟨rr, hrr⟩ := (T t ht).1
      have hnr' : n = rr := by rw [hrr] at hn; simpa using hn
      subst hnr'
      have hrs : r ∈ s2 ++ [q] ++ [r] := by simp
      have hqs : q ∈ s2 ++ [q] ++ [r] := by simp
      have r2 : r < 200 := (a.2.2.1 r hrs).1
      have q2 : q < 200 := (a.2.2.1 q hqs).1
      have hrn : r ≠ n := fun e => ev_ac_sl a ht (Nat.le_refl _) hn (by rw [← e]; exact hrs)
      have hqn : q ≠ n := fun e => ev_ac_sl a ht (Nat.le_refl _) hn (by rw [← e]; exact hqs)
      have hqr : q ≠ r := by
        have nd := a.2.1
        rw [List.nodup_append] at nd
        exact nd.2.2 q (by simp) r (by simp)
      have hsp : sp = nI ((s2 ++ [q]).length + 1) := by rw [Ar.1]; simp
      subst hsp
      have sr1 : sr (s2 ++ [q]).length = nI r := Ar.2.1 _ r ev_mid
      have sr2 : sr s2.length = nI q := Ar.2.1 _ q (by rw [List.append_assoc]; exact ev_mid)
      have hc : (s2 ++ [q]).length < 200 := by
        have := a.2.2.2
        simp only [List.length_append, List.length_cons, List.length_nil] at this ⊢
        omega
      have hlfn := (Li t ht).1 (h t) n (Nat.le_refl _) hn
      refine br_t (by rw [c5]; rfl) ?_
      refine ev_split (o := none) H n2 hEn hc r2 hrn sr1 ?_ (fun k' b' z' n' p' H' l0 l1 => ?_)
      · by_cases c : h t = 0
        · right
          rw [c] at hlfn hrr
          have lk := (Li t ht).2.1
          rw [hrr] at lk
          exact ⟨hlfn, lk.1, fun q hq => by simp at hq⟩
        · left; rw [hlfn, if_neg c]
      · refine br_t (show nI 0 = 0 from rfl) ?_
        have e1' : nI (s2 ++ [q]).length = nI (s2.length + 1) := by simp
        rw [e1']
        refine ev_node (by simp at hc; omega) q2 sr2 (Or.inl rfl) ?_
        have Hq := ev_hp_node (r := q) H'
        have g0 := (Hq n n2).2.2 0 e0 (by rw [ev_un (fun e => hqn e.symm), ev_us]; rfl)
        refine And.intro (ev_in50 (by omega)) ?_
        rw [ev_cl50 (a := n) (by omega), show 5 * n = 5 * n + 0 from rfl, g0.2.2.1]
        refine ev_open (A := []) (B := []) Hq q2 (by rw [ev_us]; rfl) (by simp) g0.1 n2 (fun k1 b1 z1 H1 => ?_)
        have g3 := (H1 r r2).2.2 0 e3 (by rw [ev_un (fun e => hqr e.symm), ev_un (fun e => hqr e.symm), ev_un hrn, ev_us]; rfl)
        refine And.intro (ev_in50 (by omega)) ?_
        rw [ev_cl50 (a := r) (by omega), show 5 * r = 5 * r + 0 from rfl, g3.2.2.1]
        refine ev_open (A := [(e0.1, n)]) (B := []) H1 q2 (by rw [ev_us]; rfl) (by simp) g3.1 r2 (fun k2 b2 z2 H2 => ?_)
        refine And.intro (vp_in_nI ht (by omega)) (fun g eg => ?_)
        rw [nI_clamp (by omega), ev_nss (by omega)] at eg
        rw [eg]
        refine HP _ _ k2 b2 z2 _ _ _ _ (ev_tI_root (E' := ev_u (ev_u (ev_u E r [e3, e4]) n [e0, e1, e2]) q [(e0.1, n), (e3.1, r)]) I0 ht hrr hEn rfl (ev_hp_ext H2 (fun m _ => ?_)) (fun c m m1 m2 => ?_) (fun c => ?_))
        · by_cases em : m = q
          · subst em; rw [ev_us, ev_us]; rfl
          · rw [ev_un em, ev_un em, ev_un em, ev_un em]
        · rw [pk_un m2, pk_un m2]
          exact l0 (by rw [hlfn, if_neg c]) m m1
        · obtain ⟨w1, w2, w3, w4, w5, w6⟩ := l1 (by rw [hlfn, if_pos c])
          rw [pk_un (fun e => hqn e.symm), pk_un (fun e => hqn e.symm), pk_un (fun e => hqr e.symm), pk_un (fun e => hqr e.symm)]
          refine ⟨w1, w2, w6 n (fun e => hrn e.symm) (by simp), w4, fun m m1 m2 m3 => ?_⟩
          rw [pk_un m3, pk_un m3]
          exact ⟨w3 m m1 m2, w6 m m2 (by simp)⟩
    · refine br_f (fun e => c5 ((nI_eq (b := 5) (by omega) (by omega)).mp e)) ?_
      refine HP _ _ _ _ _ _ _ _ _ ⟨E, h, L, sl, ow, H, T, fun t' ht' j m hj hm => ?_, a, Li, Ar⟩
      have q := S t' ht' j m hj hm
      by_cases e : m = n
      · have q2 := q.2 e
        rw [e] at q2 ⊢
        exact ⟨fun _ => ⟨q2.1, by omega⟩, fun _ => ⟨q2.1, by omega⟩⟩
      · exact ⟨fun _ => q.1 e, fun _ => q.1 e⟩
  | succ d ih =>
    intro i E L sl ow n sp ks bl sz lf nx pv rt hid I hn hp hpi
    have hi : i < h t := by omega
    have I0 := I
    obtain ⟨H, T, S, a, Li, Ar⟩ := I
    have n2 := ev_ac_lt a ht (Nat.le_of_lt hi) hn
    obtain ⟨h1, h2, h3⟩ := H n n2
    refine And.intro (vp_in_nI n2 (by omega)) ?_
    rw [nI_clamp (by omega), h2]
    have cnt := ev_tI_cnt (T t ht) (S t ht) (Nat.le_refl _) (hK t ht)
    by_cases c5 : (E n).length = 5
    · obtain ⟨e0, e1, e2, e3, e4, hEn⟩ := ev_len5 c5
      have c0 := ev_tI_cnt (T 0 (by omega)) (S 0 (by omega)) (Nat.le_refl _) (hK 0 (by omega))
      have c1 := ev_tI_cnt (T 1 (by omega)) (S 1 (by omega)) (Nat.le_refl _) (hK 1 (by omega))
      have ctot := a.2.2.2
      obtain ⟨s1, r, hs1, hl1⟩ := ev_snoc (l := sl) (k := 1) (by omega)
      subst hs1
      obtain ⟨pa1, pa2, pa3, C, s, D, hEp, hCw⟩ := hp (i + 1) (by omega) (by omega)
      rw [show i + 1 - 1 = i from rfl, hpi] at hEp
      have hrs : r ∈ s1 ++ [r] := by simp
      have r2 : r < 200 := (a.2.2.1 r hrs).1
      have hrf : ∀ j, j ≤ h t → r ∉ L t j := fun j hj h3 => ev_ac_sl a ht hj h3 hrs
      have hrn : r ≠ n := fun e => hrf i (by omega) (by rw [e]; exact hn)
      have pp2 := ev_ac_lt a ht (show i + 1 ≤ h t by omega) pa3
      obtain ⟨P, Q, hPQ⟩ := List.append_of_mem pa3
      obtain ⟨A, B, hAB, T'⟩ := ev_lr_split (E' := ev_u (ev_u (ev_u E r [e3, e4]) n [e0, e1, e2]) (p (i + 1)) (C ++ (s, n) :: (e3.1, r) :: D)) (T t ht) (ev_ac_nd a ht) hi hPQ hEp hEn hrf rfl
      have hsp : sp = nI (s1.length + 1) := by rw [Ar.1]; simp
      subst hsp
      have sr1 : sr s1.length = nI r := Ar.2.1 _ r ev_mid
      have hc : s1.length < 200 := by
        have := a.2.2.2
        simp only [List.length_append, List.length_cons, List.length_nil] at this
        omega
      have hlfn := (Li t ht).1 i n (by omega) hn
      have hnp : n ≠ p (i + 1) := fun e => by
        have := (ev_ac_nd a ht).2 i (i + 1) n (by omega) (by omega) hn (by rw [e]; exact pa3)
        omega
      have hrp : p (i + 1) ≠ r := fun e => hrf (i + 1) (by omega) (by rw [← e]; exact pa3)
      refine br_t (by rw [c5]; rfl) ?_
      refine ev_split (o := ev_hd B none) H n2 hEn hc r2 hrn sr1 ?_ (fun k' b' z' n' p' H' l0 l1 => ?_)
      · by_cases c : i = 0
        · right
          subst c
          have lk := (Li t ht).2.1
          rw [hAB, ev_nk_app, ev_nk_cons] at lk
          refine ⟨hlfn, lk.2.1, fun q hq => ?_⟩
          obtain ⟨l', hl'⟩ := ev_hd_mem hq
          have hqL : q ∈ L t 0 := by rw [hAB, hl']; simp
          have nd := (a.1 t 0 ht (by omega)).1
          rw [hAB, List.nodup_append, List.nodup_cons] at nd
          exact ⟨ev_ac_lt a ht (by omega) hqL, fun e => nd.2.1.1 (by rw [hl', e]; simp), fun e => hrf 0 (by omega) (by rw [← e]; exact hqL)⟩
        · left; rw [hlfn, if_neg c]
      · have hd1 : ¬ nI (d + 1) = 0 := nI_ne0 (by omega) (by omega)
        refine br_f hd1 (fun y ey => ?_)
        rw [nI_pred] at ey
        subst ey
        have hd : h t - (i + 1) = d := by omega
        rw [hd] at pa1 pa2
        refine ⟨vp_in_nI (show d < 10 by omega) (by omega), fun x ex => ⟨vp_in_nI (show d < 10 by omega) (by omega), ev_in50 (by omega), ?_⟩⟩
        rw [nI_clamp (by omega), pa1] at ex
        subst ex
        have g3 := (H' r r2).2.2 0 e3 (by rw [ev_un hrn, ev_us]; rfl)
        rw [ev_cl50 (by omega), show 5 * r = 5 * r + 0 from rfl, g3.2.2.1, nI_clamp (by omega), pa2, nI_1, ← hCw, show C.length + 1 = (C ++ [(s, n)]).length from by simp]
        have hEp1 : (ev_u (ev_u E r [e3, e4]) n [e0, e1, e2]) (p (i + 1)) = (C ++ [(s, n)]) ++ D := by
          rw [ev_un (fun e => hnp e.symm), ev_un hrp, hEp]; simp
        have szp := (S t ht (i + 1) (p (i + 1)) (by omega) pa3).1 (fun e => hnp e.symm)
        refine ev_open (A := C ++ [(s, n)]) (B := D) H' pp2 hEp1 (by rw [hEp] at szp; simp at szp ⊢; omega) g3.1 r2 (fun k1 b1 z1 H1 => ?_)
        have I1 := ev_tI_split (ks' := k1) (bl' := b1) (sz' := z1) (nx' := n') (pv' := p') I0 ht hi pa3 hEp hAB rfl T' (ev_hp_ext H1 (fun m _ => by
          by_cases em : m = p (i + 1)
          · rw [em, ev_us, ev_us]; simp
          · rw [ev_un em, ev_un em])) (fun c => l0 (by rw [hlfn, if_neg c])) (fun c => l1 (by rw [hlfn, if_pos c]))
        refine ih (i + 1) _ _ s1 _ (p (i + 1)) _ k1 b1 z1 _ n' p' rt (by omega) I1 ?_ ?_ rfl
        · rw [ev_us, ev_un (by omega)]; exact pa3
        · intro j hj hjh
          obtain ⟨v1, v2, v3, C', s', D', v4, v5⟩ := hp j (by omega) hjh
          have N := ev_ac_nd a ht
          have x1 : p j ≠ p (i + 1) := fun e => by
            have := N.2 j (i + 1) (p j) hjh (by omega) v3 (by rw [e]; exact pa3)
            omega
          have x2 : p j ≠ n := fun e => by
            have := N.2 j i (p j) hjh (by omega) v3 (by rw [e]; exact hn)
            omega
          have x3 : p j ≠ r := fun e => hrf j hjh (by rw [← e]; exact v3)
          refine ⟨v1, v2, ?_, C', s', D', ?_, v5⟩
          · rw [ev_us, ev_un (by omega)]; exact v3
          · rw [ev_un x1, ev_un x2, ev_un x3]; exact v4
    · refine br_f (fun e => c5 ((nI_eq (b := 5) (by omega) (by omega)).mp e)) ?_
      refine HP _ _ _ _ _ _ _ _ _ ⟨E, h, L, sl, ow, H, T, fun t' ht' j m hj hm => ?_, a, Li, Ar⟩
      have q := S t' ht' j m hj hm
      by_cases e : m = n
      · have q2 := q.2 e
        rw [e] at q2 ⊢
        exact ⟨fun _ => ⟨q2.1, by omega⟩, fun _ => ⟨q2.1, by omega⟩⟩
      · exact ⟨fun _ => q.1 e, fun _ => q.1 e⟩
theorem ev_insert15 {post : SX → Prop} {E : Nat → List (Nat × Nat)} {c key : Nat} {x1 : Int32} (h : ev_hp E ks bl sz) (hc : c < 200) (hk : key < 2 ^ 24)
    (P : ∀ C D, E c = C ++ D → (∀ e, e ∈ D → key < e.1) → (∀ d C', C = C' ++ [d] → d.1 ≤ key) → wX_insert_43 post x1 (nI key) (nI c) (nI C.length) fb sp dp kp lg ls fd mn pc us it ln ks bl sz lf nx pv sr rt pa wy oa ov bg) :
    ∀ (k : Nat) (C D : List (Nat × Nat)), C.length = k → E c = C ++ D → (∀ e, e ∈ D → key < e.1) → wX_insert_15 post x1 (nI key) (nI c) fb sp dp kp lg ls fd mn pc us it ln ks bl sz lf nx pv sr rt pa wy oa ov bg (k + 1) (nI k) := by
  obtain ⟨h1, h2, h3⟩ := h c hc
  intro k
  induction k with
  | zero =>
    intro C D hC hE hD
    have hC0 := List.eq_nil_of_length_eq_zero hC
    subst hC0
    exact br_t (nI_le (b := 0) (Nat.le_refl _) (by omega)) (P [] D hE hD (fun d C' e => by simp at e))
  | succ k ih =>
    intro C D hC hE hD
    have hCn : C ≠ [] := fun e => by rw [e] at hC; simp at hC
    obtain ⟨C', d, hC'⟩ : ∃ C' e', C = C' ++ [e'] := ⟨C.dropLast, C.getLast hCn, (List.dropLast_concat_getLast hCn).symm⟩
    subst hC'
    have hk' : C'.length = k := by simpa using hC
    have hl : (E c).length = C'.length + D.length + 1 := by rw [hE]; simp; omega
    have q := h3 k d (by rw [hE, List.append_assoc, ← hk']; exact ev_mid)
    refine br_f (nI_ge (a := 0) (by omega) (by omega)) ⟨ev_in5m (by omega), ?_⟩
    rw [ev_cl5m (by omega), q.2.2.1]
    by_cases le : d.1 ≤ key
    · have := P (C' ++ [d]) D hE hD (fun d' C'' e => ?_)
      · rw [hC] at this
        exact br_t (nI_le le (by omega)) this
      · have := List.append_inj_right' e rfl
        have e' : d = d' := by simpa using this
        rw [← e']; exact le
    · refine br_f (nI_ge (by omega) (by omega)) (fun y ey => ?_)
      rw [pk_m1] at ey
      subst ey
      refine ih C' (d :: D) hk' (by rw [hE]; simp) (fun e he => ?_)
      rcases List.mem_cons.mp he with a | a
      · rw [a]; omega
      · exact hD e a
theorem ev_insert {post : SX → Prop} {K : Nat → List Nat} {t key : Nat} (I : ev_TI K sp ks bl sz lf nx pv sr rt) (ht : t < 2) (hk : key < 2 ^ 24) (hnew : key ∉ K t) (hK : (K t).length + 1 ≤ 96) (hK' : ∀ t', t' < 2 → (K t').length ≤ 96)
    (HP : ∀ X Y sp' dp' ks' bl' sz' lf' nx' pv' rt' pa' wy', K t = X ++ Y → (X ++ key :: Y).Pairwise (· < ·) → ev_TI (ev_u K t (X ++ key :: Y)) sp' ks' bl' sz' lf' nx' pv' sr rt' → post (fb, sp', dp', kp, lg, ls, fd, mn, pc, us, it, ln, ks', bl', sz', lf', nx', pv', sr, rt', pa', wy', oa, ov, bg)) :
    wpX_insert post (fb, sp, dp, kp, lg, ls, fd, mn, pc, us, it, ln, ks, bl, sz, lf, nx, pv, sr, rt, pa, wy, oa, ov, bg) (nI t) (nI key) := by
  obtain ⟨E, h, L, sl, ow, I⟩ := I
  refine ev_descend (dp := dp) I ht (by omega) hk (fun c pa' wy' p w hlf hpth hp0 hc0 => ?_)
  have I0 := I
  obtain ⟨H, T, S, a, Li, Ar⟩ := I
  obtain ⟨LA, LB, hL, hA, hB, hsep⟩ := hlf
  have hc : c < 200 := ev_ac_lt a ht (by omega) hc0
  obtain ⟨h1, h2, h3⟩ := H c hc
  refine And.intro (vp_in_nI hc (by omega)) (fun x ex => Exists.intro ((E c).length + 1) ?_)
  rw [nI_clamp (by omega), h2] at ex
  subst ex
  refine ev_insert15 (E := E) H hc hk (fun C D hE hD hC => ?_) (E c).length (E c) [] rfl (by simp) (fun e he => by simp at he)
  have hKe : K t = ((LA.flatMap E).map Prod.fst ++ C.map Prod.fst) ++ (D.map Prod.fst ++ (LB.flatMap E).map Prod.fst) := by
    rw [← (T t ht).2.2.2.2.1, hL, List.flatMap_append, List.flatMap_cons, hE]; simp
  have hs := (T t ht).2.2.2.2.2
  have hhi : ∀ z, z ∈ D.map Prod.fst ++ (LB.flatMap E).map Prod.fst → key < z := by
    intro z hz
    rcases List.mem_append.mp hz with a | a
    · obtain ⟨e, he, rfl⟩ := List.mem_map.mp a
      exact hD e he
    · exact hB z a
  have hlo : ∀ z, z ∈ (LA.flatMap E).map Prod.fst ++ C.map Prod.fst → z < key := by
    intro z hz
    have hzK : z ≠ key := fun e => hnew (by rw [hKe, ← e]; exact List.mem_append.mpr (Or.inl hz))
    rcases List.mem_append.mp hz with a | a
    · exact hA z a
    · rcases List.eq_nil_or_concat C with hC0 | ⟨C', d, hC'⟩
      · rw [hC0] at a; simp at a
      · rw [List.concat_eq_append] at hC'
        have hd := hC d C' hC'
        have so := ev_leaf_sorted (T t ht) hc0
        rw [hE, List.map_append, List.pairwise_append] at so
        have so1 := so.1
        rw [hC', List.map_append, List.pairwise_append] at so1
        rw [hC', List.map_append] at a
        rcases List.mem_append.mp a with b | b
        · have := so1.2.2 z b d.1 (by simp)
          omega
        · have : z = d.1 := by simpa using b
          omega
  have hs' : (((LA.flatMap E).map Prod.fst ++ C.map Prod.fst) ++ key :: (D.map Prod.fst ++ (LB.flatMap E).map Prod.fst)).Pairwise (· < ·) := by
    rw [hKe, List.pairwise_append] at hs
    rw [List.pairwise_append, List.pairwise_cons]
    refine ⟨hs.1, ⟨hhi, hs.2.1⟩, fun x hx y hy => ?_⟩
    rcases List.mem_cons.mp hy with e | e
    · rw [e]; exact hlo x hx
    · exact hs.2.2 x hx y e
  have szc := S t ht 0 c (by omega) hc0
  have len4 : C.length + D.length ≤ 4 := by
    have := szc
    rw [hE, List.length_append] at this
    by_cases e : c = 0
    · exact (this.2 e).2
    · exact (this.1 e).2
  show wpX_open _ _ (nI c) (nI C.length) (nI key) (nI 0)
  refine ev_open (A := C) (B := D) H hc hE len4 hk (by omega) (fun k1 b1 z1 H1 => ?_)
  refine Exists.intro (h t + 1) ?_
  have ag : ∀ t' j m, t' < 2 → (t' ≠ t ∨ j ≠ 0) → j ≤ h t' → m ∈ L t' j → (ev_u E c (C ++ (key, 0) :: D)) m = E m := by
    intro t' j m ht' hne hj hm
    refine ev_un (fun e => ?_)
    have := ev_ac_tt (j := 0) a ht' ht hj (by omega) hm (by rw [e]; exact hc0)
    omega
  have T1 := ev_lins (v := 0) (T t ht) (ev_ac_nd a ht) hL hE hsep hs'
  refine ev_insert52 (h := h) (K := ev_u K t _) (t := t) (p := p) (w := w) ht (fun t' ht' => ?_) (fun sp' dp' ks' bl' sz' lf' nx' pv' rt' hTI => HP _ _ sp' dp' ks' bl' sz' lf' nx' pv' rt' pa' wy' hKe hs' hTI) (h t) 0 (ev_u E c (C ++ (key, 0) :: D)) L sl ow c sp k1 b1 z1 lf nx pv rt (by omega) ⟨H1, fun t' ht' => ?_, fun t' ht' => ?_, a, Li, Ar⟩ hc0 ?_ hp0
  · by_cases c1 : t' = t
    · subst c1
      rw [ev_us]
      rw [hKe] at hK
      simp only [List.length_append, List.length_cons] at hK ⊢
      omega
    · rw [ev_un c1]; exact hK' t' ht'
  · by_cases c1 : t' = t
    · subst c1; rw [ev_us]; exact T1
    · rw [ev_un c1]; exact ev_ts_c (T t' ht') (fun j m hj hm => ag t' j m ht' (Or.inl c1) hj hm)
  · intro j m hj hm
    by_cases e : m = c
    · subst e
      refine ⟨fun q => absurd rfl q, fun _ => ?_⟩
      have tt := ev_ac_tt (j := 0) a ht' ht hj (by omega) hm hc0
      have hq : (h t = 0 ∨ 2 ≤ (E m).length) := by
        by_cases e0 : m = 0
        · exact (szc.2 e0).1
        · exact (szc.1 e0).1
      rw [ev_us]
      rw [hE] at hq
      rw [tt.1]
      simp only [List.length_append, List.length_cons] at hq ⊢
      omega
    · refine ⟨fun _ => ?_, fun q => absurd q e⟩
      rw [ev_un e]
      have q := S t' ht' j m hj hm
      by_cases e0 : m = 0
      · exact q.2 e0
      · exact q.1 e0
  · intro j hj hjh
    obtain ⟨v1, v2, v3, v4⟩ := hpth j hj hjh
    refine ⟨v1, v2, v3, ?_⟩
    rw [ag t j (p j) ht (Or.inr (by omega)) hjh v3]
    exact v4
end
end
section
/-! the steps of erase over the tree by levels: merge, borrow, collapse; the accounting -/
theorem ev_u_id {α : Type} {f : Nat → α} {a : Nat} {x : α} (h : f a = x) : ev_u f a x = f := by
  funext m
  by_cases c : m = a
  · subst c; rw [ev_us, h]
  · rw [ev_un c]
/-- two neighbours under one parent, and what is known of them -/
theorem ev_pair {E : Nat → List (Nat × Nat)} {h : Nat} {L : Nat → List Nat} {K : List Nat} {i p a b k1 k2 : Nat} {C D : List (Nat × Nat)}
    (T : ev_ts E h L K) (N : ev_nd h L) (hi : i < h) (hp : p ∈ L (i + 1)) (hE : E p = C ++ (k1, a) :: (k2, b) :: D) :
    a ∈ L i ∧ b ∈ L i ∧ a ≠ b ∧ a ≠ p ∧ b ≠ p ∧ (i = 0 → ev_R E (k1, a) (k2, b)) := by
  have ha : a ∈ L i := ev_ts_child T (e := (k1, a)) hi hp (by rw [hE]; simp)
  have hb : b ∈ L i := ev_ts_child T (e := (k2, b)) hi hp (by rw [hE]; simp)
  obtain ⟨P, Q, hL⟩ := List.append_of_mem hp
  have nd := N.1 i (by omega)
  rw [← T.2.1 i hi, hL, ev_sn_app, ev_sn_cons, hE] at nd
  refine ⟨ha, hb, fun e => ?_, fun e => ?_, fun e => ?_, fun h0 => ?_⟩
  · subst e
    rw [List.nodup_append, List.nodup_append] at nd
    have := nd.2.1.1
    rw [List.map_append, List.nodup_append] at this
    simp at this
  · have := N.2 i (i + 1) a (by omega) (by omega) ha (by rw [e]; exact hp)
    omega
  · have := N.2 i (i + 1) b (by omega) (by omega) hb (by rw [e]; exact hp)
    omega
  · subst h0
    have pw := T.2.2.2.1 (by omega)
    rw [hL, List.flatMap_append, List.flatMap_cons, hE, List.pairwise_append, List.pairwise_append] at pw
    have := pw.2.1.1
    rw [List.pairwise_append, List.pairwise_cons] at this
    exact this.2.1.1 (k2, b) (by simp)
theorem ev_lr_merge {E E' : Nat → List (Nat × Nat)} {h : Nat} {L : Nat → List Nat} {K : List Nat} {i p a b k1 k2 : Nat} {C D : List (Nat × Nat)}
    (T : ev_ts E h L K) (N : ev_nd h L) (hi : i < h) (hp : p ∈ L (i + 1)) (hE : E p = C ++ (k1, a) :: (k2, b) :: D) (hne : E a ≠ [])
    (hE' : E' = ev_u (ev_u E a (E a ++ E b)) p (C ++ (k1, a) :: D)) :
    ∃ A B, L i = A ++ a :: b :: B ∧ ev_ts E' h (ev_u L i (A ++ a :: B)) K := by
  obtain ⟨ha, hb, hab, hap, hbp, _⟩ := ev_pair T N hi hp hE
  obtain ⟨P, Q, hL⟩ := List.append_of_mem hp
  have Ea : E' a = E a ++ E b := by rw [hE', ev_un hap, ev_us]
  have key := ev_lr (E' := E') (M := [(k1, a), (k2, b)]) (M' := [(k1, a)]) (M1 := [(k2, b)]) (M1' := []) (s0 := k1) (n0 := a) (C := C) (D := D) T N hi hL (by rw [hE]; simp) (by rw [hE', ev_us]; simp)
    (fun m h1 h2 h3 => by
      simp only [List.map_cons, List.map_nil, List.mem_cons, List.not_mem_nil, or_false] at h2 h3
      rw [hE', ev_un h1, ev_un h3])
    (fun m hm => by
      simp only [List.map_cons, List.map_nil, List.mem_cons, List.not_mem_nil, or_false] at hm
      left; rw [hm]; simp)
    (by simp [Ea]) rfl rfl hne (by
      unfold ev_fk
      rw [Ea]
      cases hc : E a with
      | nil => exact absurd hc hne
      | cons g gs => rfl)
    (fun _ e he => by simp at he)
    (fun _ => ⟨by simp, fun e he => by simp at he⟩)
  refine ⟨ev_sn E P ++ C.map Prod.snd, D.map Prod.snd ++ ev_sn E Q, by rw [key.1]; simp, ?_⟩
  have e : ev_sn E P ++ (C ++ [(k1, a)] ++ D).map Prod.snd ++ ev_sn E Q = ev_sn E P ++ C.map Prod.snd ++ a :: (D.map Prod.snd ++ ev_sn E Q) := by simp
  rw [← e]
  exact key.2
theorem ev_lr_bl {E E' : Nat → List (Nat × Nat)} {h : Nat} {L : Nat → List Nat} {K : List Nat} {i p a b k1 k2 : Nat} {e f : Nat × Nat} {C D B0 : List (Nat × Nat)}
    (T : ev_ts E h L K) (N : ev_nd h L) (hi : i < h) (hp : p ∈ L (i + 1)) (hE : E p = C ++ (k1, a) :: (k2, b) :: D) (hne : E a ≠ []) (hEb : E b = e :: f :: B0)
    (hE' : E' = ev_u (ev_u (ev_u E a (E a ++ [e])) b (f :: B0)) p (C ++ (k1, a) :: (f.1, b) :: D)) :
    ev_ts E' h L K := by
  obtain ⟨ha, hb, hab, hap, hbp, hR⟩ := ev_pair T N hi hp hE
  obtain ⟨P, Q, hL⟩ := List.append_of_mem hp
  have Ea : E' a = E a ++ [e] := by rw [hE', ev_un hap, ev_un hab, ev_us]
  have Eb : E' b = f :: B0 := by rw [hE', ev_un hbp, ev_us]
  have key := ev_lr (E' := E') (M := [(k1, a), (k2, b)]) (M' := [(k1, a), (f.1, b)]) (M1 := [(k2, b)]) (M1' := [(f.1, b)]) (s0 := k1) (n0 := a) (C := C) (D := D) T N hi hL (by rw [hE]; simp) (by rw [hE', ev_us]; simp)
    (fun m h1 h2 h3 => by
      simp only [List.map_cons, List.map_nil, List.mem_cons, List.not_mem_nil, or_false, not_or] at h2 h3
      rw [hE', ev_un h1, ev_un h3.2, ev_un h3.1])
    (fun m hm => by
      left
      simpa using hm)
    (by simp [Ea, Eb, hEb]) rfl rfl hne (by
      unfold ev_fk
      rw [Ea]
      cases hc : E a with
      | nil => exact absurd hc hne
      | cons g gs => rfl)
    (fun _ g hg => by
      have : g = (f.1, b) := by simpa using hg
      subst this
      exact (ev_fk_cons Eb).symm)
    (fun h0 => by
      have r := hR h0
      subst h0
      have so := ev_leaf_sorted T hb
      rw [hEb, List.map_cons, List.map_cons, List.pairwise_cons, List.pairwise_cons] at so
      refine ⟨List.pairwise_cons.mpr ⟨fun g hg => ?_, by simp⟩, fun g hg => ?_⟩
      · have : g = (f.1, b) := by simpa using hg
        subst this
        refine ⟨fun y hy => ?_, fun y hy => ?_⟩
        · rw [show E' (k1, a).2 = E a ++ [e] from Ea, List.map_append] at hy
          show y < f.1
          rcases List.mem_append.mp hy with q | q
          · have q1 := r.1 y q
            have q2 := r.2 f.1 (by show f.1 ∈ (E b).map Prod.fst; rw [hEb]; simp)
            omega
          · have : y = e.1 := by simpa using q
            rw [this]; exact so.1 f.1 (by simp)
        · rw [show E' (f.1, b).2 = f :: B0 from Eb, List.map_cons] at hy
          show f.1 ≤ y
          rcases List.mem_cons.mp hy with q | q
          · omega
          · have := so.2.1 y q; omega
      · have : g = (f.1, b) := by simpa using hg
        subst this
        exact ⟨f.1, by simp [hEb], Nat.le_refl _⟩)
  have e2 : ev_sn E P ++ (C ++ [(k1, a), (f.1, b)] ++ D).map Prod.snd ++ ev_sn E Q = L i := by rw [key.1]; simp
  have k2' := key.2
  rw [e2, ev_u_id rfl] at k2'
  exact k2'
theorem ev_lr_br {E E' : Nat → List (Nat × Nat)} {h : Nat} {L : Nat → List Nat} {K : List Nat} {i p a b k1 k2 : Nat} {e : Nat × Nat} {C D A0 : List (Nat × Nat)}
    (T : ev_ts E h L K) (N : ev_nd h L) (hi : i < h) (hp : p ∈ L (i + 1)) (hE : E p = C ++ (k1, a) :: (k2, b) :: D) (hne : A0 ≠ []) (hEa : E a = A0 ++ [e])
    (hE' : E' = ev_u (ev_u (ev_u E b (e :: E b)) a A0) p (C ++ (k1, a) :: (e.1, b) :: D)) :
    ev_ts E' h L K := by
  obtain ⟨ha, hb, hab, hap, hbp, hR⟩ := ev_pair T N hi hp hE
  obtain ⟨P, Q, hL⟩ := List.append_of_mem hp
  have Ea : E' a = A0 := by rw [hE', ev_un hap, ev_us]
  have Eb : E' b = e :: E b := by rw [hE', ev_un hbp, ev_un (fun z => hab z.symm), ev_us]
  have key := ev_lr (E' := E') (M := [(k1, a), (k2, b)]) (M' := [(k1, a), (e.1, b)]) (M1 := [(k2, b)]) (M1' := [(e.1, b)]) (s0 := k1) (n0 := a) (C := C) (D := D) T N hi hL (by rw [hE]; simp) (by rw [hE', ev_us]; simp)
    (fun m h1 h2 h3 => by
      simp only [List.map_cons, List.map_nil, List.mem_cons, List.not_mem_nil, or_false, not_or] at h2 h3
      rw [hE', ev_un h1, ev_un h3.1, ev_un h3.2])
    (fun m hm => by
      left
      simpa using hm)
    (by simp [Ea, Eb, hEa]) rfl rfl (by rw [hEa]; simp) (by
      unfold ev_fk
      rw [Ea, hEa]
      cases A0 with
      | nil => exact absurd rfl hne
      | cons g gs => rfl)
    (fun _ g hg => by
      have : g = (e.1, b) := by simpa using hg
      subst this
      exact (ev_fk_cons Eb).symm)
    (fun h0 => by
      have r := hR h0
      subst h0
      have so := ev_leaf_sorted T ha
      rw [hEa, List.map_append, List.pairwise_append] at so
      refine ⟨List.pairwise_cons.mpr ⟨fun g hg => ?_, by simp⟩, fun g hg => ?_⟩
      · have : g = (e.1, b) := by simpa using hg
        subst this
        refine ⟨fun y hy => ?_, fun y hy => ?_⟩
        · rw [show E' (k1, a).2 = A0 from Ea] at hy
          exact so.2.2 y hy e.1 (by simp)
        · rw [show E' (e.1, b).2 = e :: E b from Eb, List.map_cons] at hy
          show e.1 ≤ y
          rcases List.mem_cons.mp hy with q | q
          · omega
          · have q1 := r.1 e.1 (by show e.1 ∈ (E a).map Prod.fst; rw [hEa]; simp)
            have q2 := r.2 y q
            omega
      · have : g = (e.1, b) := by simpa using hg
        subst this
        exact ⟨e.1, by simp [hEa], Nat.le_refl _⟩)
  have e2 : ev_sn E P ++ (C ++ [(k1, a), (e.1, b)] ++ D).map Prod.snd ++ ev_sn E Q = L i := by rw [key.1]; simp
  have k2' := key.2
  rw [e2, ev_u_id rfl] at k2'
  exact k2'
theorem ev_ac_del {h : Nat → Nat} {L : Nat → Nat → List Nat} {sl : List Nat} {ow : Nat → Nat} {t i a b : Nat} {A B : List Nat} (c : ev_ac h L sl ow) (ht : t < 2) (hi : i ≤ h t) (hL : L t i = A ++ a :: b :: B) :
    ev_ac h (ev_u L t (ev_u (L t) i (A ++ a :: B))) (sl ++ [b]) (ev_u ow b 0) := by
  have hb : b ∈ L t i := by rw [hL]; simp
  have nd := (c.1 t i ht hi).1
  rw [hL, List.nodup_append, List.nodup_cons, List.nodup_cons] at nd
  refine ⟨fun t' j ht' hj => ?_, ?_, fun m hm => ?_, ?_⟩
  · have gen : ∀ m, m ∈ L t' j → m ≠ b → m < 200 ∧ ev_u ow b 0 m = 2 * j + t' + 1 := by
      intro m hm hmb
      rw [ev_un hmb]
      exact (c.1 t' j ht' hj).2 m hm
    by_cases c1 : t' = t
    · subst c1
      rw [ev_us]
      by_cases c2 : j = i
      · subst c2
        rw [ev_us]
        refine ⟨?_, fun m hm => ?_⟩
        · rw [List.nodup_append, List.nodup_cons]
          refine ⟨nd.1, ⟨fun q => nd.2.1.1 (by simp [q]), nd.2.1.2.2⟩, fun x hx y hy => ?_⟩
          rcases List.mem_cons.mp hy with q | q
          · exact nd.2.2 x hx y (by rw [q]; simp)
          · exact nd.2.2 x hx y (by simp [q])
        · refine gen m ?_ ?_
          · rw [hL]
            simp only [List.mem_append, List.mem_cons] at hm ⊢
            rcases hm with x | x | x
            · exact Or.inl x
            · exact Or.inr (Or.inl x)
            · exact Or.inr (Or.inr (Or.inr x))
          · intro e
            subst e
            rcases List.mem_append.mp hm with x | x
            · exact nd.2.2 m x m (by simp) rfl
            · rcases List.mem_cons.mp x with y | y
              · exact nd.2.1.1 (by rw [← y]; simp)
              · exact nd.2.1.2.1 y
      · rw [ev_un c2]
        refine ⟨(c.1 t' j ht' hj).1, fun m hm => gen m hm (fun e => c2 ?_)⟩
        exact (ev_ac_tt (j := i) c ht' ht hj hi hm (by rw [e]; exact hb)).2
    · rw [ev_un c1]
      refine ⟨(c.1 t' j ht' hj).1, fun m hm => gen m hm (fun e => c1 ?_)⟩
      exact (ev_ac_tt (j := i) c ht' ht hj hi hm (by rw [e]; exact hb)).1
  · rw [List.nodup_append]
    refine ⟨c.2.1, by simp, fun x hx y hy e => ?_⟩
    have : y = b := by simpa using hy
    exact ev_ac_sl c ht hi hb (by rw [← this, ← e]; exact hx)
  · rcases List.mem_append.mp hm with x | x
    · have q := c.2.2.1 m x
      refine ⟨q.1, ?_⟩
      by_cases e : m = b
      · rw [e, ev_us]
      · rw [ev_un e]; exact q.2
    · have : m = b := by simpa using x
      subst this
      exact ⟨((c.1 t i ht hi).2 m hb).1, ev_us⟩
  · have q := c.2.2.2
    have tt := ev_tot_t (L := L) (l := A ++ a :: B) ht hi
    rw [hL] at tt
    simp only [List.length_append, List.length_cons, List.length_nil] at q tt ⊢
    omega
theorem ev_ac_shrink {h : Nat → Nat} {L : Nat → Nat → List Nat} {sl : List Nat} {ow : Nat → Nat} {t p h' : Nat} (c : ev_ac h L sl ow) (ht : t < 2) (hh : h t = h' + 1) (hL : L t (h' + 1) = [p]) :
    ev_ac (ev_u h t h') L (sl ++ [p]) (ev_u ow p 0) := by
  have hp : p ∈ L t (h' + 1) := by rw [hL]; simp
  have hle : ∀ t' j, j ≤ (ev_u h t h') t' → j ≤ h t' := by
    intro t' j hj
    by_cases c1 : t' = t
    · subst c1; rw [ev_us] at hj; omega
    · rw [ev_un c1] at hj; exact hj
  refine ⟨fun t' j ht' hj => ⟨(c.1 t' j ht' (hle t' j hj)).1, fun m hm => ?_⟩, ?_, fun m hm => ?_, ?_⟩
  · have q := (c.1 t' j ht' (hle t' j hj)).2 m hm
    rw [ev_un (fun e => ?_)]
    · exact q
    · have := ev_ac_tt (j := h' + 1) c ht' ht (hle t' j hj) (by omega) hm (by rw [e]; exact hp)
      obtain ⟨e1, e2⟩ := this
      subst e1
      rw [ev_us] at hj
      omega
  · rw [List.nodup_append]
    refine ⟨c.2.1, by simp, fun x hx y hy e => ?_⟩
    have : y = p := by simpa using hy
    exact ev_ac_sl (i := h' + 1) c ht (by omega) hp (by rw [← this, ← e]; exact hx)
  · rcases List.mem_append.mp hm with x | x
    · have q := c.2.2.1 m x
      refine ⟨q.1, ?_⟩
      by_cases e : m = p
      · rw [e, ev_us]
      · rw [ev_un e]; exact q.2
    · have : m = p := by simpa using x
      subst this
      exact ⟨((c.1 t (h' + 1) ht (by omega)).2 m hp).1, ev_us⟩
  · have q := c.2.2.2
    have e1 : ev_tot (L t) (h' + 1) = ev_tot (L t) h' + 1 := by
      show ev_tot (L t) h' + (L t (h' + 1)).length = _
      rw [hL]; rfl
    rw [List.length_append, show [p].length = 1 from rfl]
    have cc : t = 0 ∨ t = 1 := by omega
    rcases cc with e | e
    · subst e
      rw [ev_us, ev_un (by omega)]
      rw [hh, e1] at q
      omega
    · subst e
      rw [ev_us, ev_un (by omega)]
      rw [hh, e1] at q
      omega
end
section
/-! the invariant over merge, borrow and collapse -/
section
variable {sp : Int32} {ks bl sz lf nx pv sr rt ks' bl' sz' nx' pv' : Nat → Int32}
/-- a stable invariant out of an exceptional node that is in order -/
theorem ev_tI_ok {E : Nat → List (Nat × Nat)} {h : Nat → Nat} {L : Nat → Nat → List Nat} {sl : List Nat} {ow : Nat → Nat} {K : Nat → List Nat} {n lo hi : Nat} (I : ev_tI E h L sl ow n lo hi K sp ks bl sz lf nx pv sr rt)
    (hn : ∀ t j, t < 2 → j ≤ h t → n ∈ L t j → (h t = 0 ∨ 2 ≤ (E n).length) ∧ (E n).length ≤ 4) : ev_TI K sp ks bl sz lf nx pv sr rt := by
  obtain ⟨H, T, S, a, Li, Ar⟩ := I
  refine ⟨E, h, L, sl, ow, H, T, fun t' ht' j m hj hm => ?_, a, Li, Ar⟩
  have q := S t' ht' j m hj hm
  by_cases e : m = n
  · have q2 := hn t' j ht' hj (by rw [← e]; exact hm)
    rw [e]
    exact ⟨fun _ => q2, fun _ => q2⟩
  · exact ⟨fun _ => q.1 e, fun _ => q.1 e⟩
theorem ev_tI_merge {E E' : Nat → List (Nat × Nat)} {h : Nat → Nat} {L : Nat → Nat → List Nat} {sl : List Nat} {ow : Nat → Nat} {K : Nat → List Nat} {t i n p a b k1 k2 : Nat} {A B : List Nat} {C D : List (Nat × Nat)}
    (I : ev_tI E h L sl ow n 1 4 K sp ks bl sz lf nx pv sr rt) (ht : t < 2) (hi : i < h t) (hpL : p ∈ L t (i + 1)) (hE : E p = C ++ (k1, a) :: (k2, b) :: D) (hL : L t i = A ++ a :: b :: B) (hn : n = a ∨ n = b) (hsum : (E a).length + (E b).length < 5)
    (hE' : E' = ev_u (ev_u E a (E a ++ E b)) p (C ++ (k1, a) :: D))
    (T' : ev_ts E' (h t) (ev_u (L t) i (A ++ a :: B)) (K t)) (H' : ev_hp E' ks' bl' sz')
    (l0 : i ≠ 0 → ∀ m, nx' m = nx m ∧ pv' m = pv m) (l1 : i = 0 → ev_lM nx pv nx' pv' a (ev_hd B none)) :
    ev_tI E' h (ev_u L t (ev_u (L t) i (A ++ a :: B))) (sl ++ [b]) (ev_u ow b 0) p 1 4 K (nI (sl.length + 1)) ks' bl' sz' lf nx' pv' (upd sr sl.length (nI b)) rt := by
  obtain ⟨H, T, S, c, Li, Ar⟩ := I
  obtain ⟨haL, hbL, hab, hap, hbp, _⟩ := ev_pair (T t ht) (ev_ac_nd c ht) hi hpL hE
  have nd := (c.1 t i ht (by omega)).1
  have nd0 := nd
  rw [hL, List.nodup_append, List.nodup_cons, List.nodup_cons] at nd
  have sub : ∀ m, m ∈ A ++ a :: B → m ∈ L t i ∧ m ≠ b := by
    intro m hm
    refine ⟨?_, fun e => ?_⟩
    · rw [hL]
      simp only [List.mem_append, List.mem_cons] at hm ⊢
      rcases hm with x | x | x
      · exact Or.inl x
      · exact Or.inr (Or.inl x)
      · exact Or.inr (Or.inr (Or.inr x))
    · subst e
      rcases List.mem_append.mp hm with x | x
      · exact nd.2.2 m x m (by simp) rfl
      · rcases List.mem_cons.mp x with y | y
        · exact nd.2.1.1 (by rw [← y]; simp)
        · exact nd.2.1.2.1 y
  have oth : ∀ t' j m, t' < 2 → t' ≠ t → j ≤ h t' → m ∈ L t' j → m ≠ a ∧ m ≠ b ∧ m ≠ p := by
    intro t' j m ht' hne hj hm
    refine ⟨fun e => ?_, fun e => ?_, fun e => ?_⟩
    · exact hne (ev_ac_tt (j := i) c ht' ht hj (by omega) hm (by rw [e]; exact haL)).1
    · exact hne (ev_ac_tt (j := i) c ht' ht hj (by omega) hm (by rw [e]; exact hbL)).1
    · exact hne (ev_ac_tt (j := i + 1) c ht' ht hj (by omega) hm (by rw [e]; exact hpL)).1
  have ag : ∀ t' j m, t' < 2 → t' ≠ t → j ≤ h t' → m ∈ L t' j → E' m = E m := by
    intro t' j m ht' hne hj hm
    obtain ⟨q1, q2, q3⟩ := oth t' j m ht' hne hj hm
    rw [hE', ev_un q3, ev_un q1]
  have hoB : ∀ m, ev_hd B none = some m → m ∈ L t i := by
    intro m hm
    obtain ⟨l', rfl⟩ := ev_hd_mem hm
    rw [hL]; simp
  have sz1 : ∀ j m, j ≤ h t → m ∈ L t j → 1 ≤ (E m).length ∧ (E m).length ≤ 4 ∧ (m ≠ a → m ≠ b → 2 ≤ (E m).length) := by
    intro j m hj hm
    have q := S t ht j m hj hm
    by_cases e : m = n
    · have q2 := q.2 e
      refine ⟨by omega, q2.2, fun x1 x2 => ?_⟩
      rcases hn with y | y
      · exact absurd (e.trans y) x1
      · exact absurd (e.trans y) x2
    · have q2 := q.1 e
      exact ⟨by omega, q2.2, fun _ _ => by omega⟩
  refine ⟨H', fun t' ht' => ?_, fun t' ht' => ?_, ev_ac_del c ht (by omega) hL, fun t' ht' => ?_, by rw [List.length_append]; rfl, fun j m hm => ?_, fun t' ht' => ?_⟩
  · by_cases c1 : t' = t
    · subst c1; rw [ev_us]; exact T'
    · rw [ev_un c1]; exact ev_ts_c (T t' ht') (fun j m hj hm => ag t' j m ht' c1 hj hm)
  · by_cases c1 : t' = t
    · subst c1
      rw [ev_us]
      have old : ∀ j m, j ≤ h t' → m ∈ L t' j → m ≠ b → (m ≠ p → (h t' = 0 ∨ 2 ≤ (E' m).length) ∧ (E' m).length ≤ 4) ∧ (m = p → (h t' = 0 ∨ 1 ≤ (E' m).length) ∧ (E' m).length ≤ 4) := by
        intro j m hj hm hmb
        refine ⟨fun e => ?_, fun e => ?_⟩
        · by_cases x : m = a
          · subst x
            have g1 := sz1 i m (by omega) haL
            have g2 := sz1 i b (by omega) hbL
            rw [hE', ev_un hap, ev_us, List.length_append]
            omega
          · rw [hE', ev_un e, ev_un x]
            have g := sz1 j m hj hm
            have := g.2.2 x hmb
            omega
        · subst e
          have g := sz1 (i + 1) m (by omega) hpL
          have g2 := g.2.2 (fun e => hap e.symm) (fun e => hbp e.symm)
          rw [hE] at g g2
          rw [hE', ev_us]
          simp only [List.length_append, List.length_cons] at g g2 ⊢
          omega
      intro j m hj hm
      by_cases c2 : j = i
      · subst c2
        rw [ev_us] at hm
        exact old j m hj (sub m hm).1 (sub m hm).2
      · rw [ev_un c2] at hm
        refine old j m hj hm (fun e => c2 ?_)
        exact (ev_ac_tt (j := i) c ht ht hj (by omega) hm (by rw [e]; exact hbL)).2
    · rw [ev_un c1]
      intro j m hj hm
      obtain ⟨q1, q2, q3⟩ := oth t' j m ht' c1 hj hm
      rw [ag t' j m ht' c1 hj hm]
      refine ⟨fun _ => (S t' ht' j m hj hm).1 (fun e => ?_), fun e => absurd e q3⟩
      rcases hn with y | y
      · exact q1 (e.trans y)
      · exact q2 (e.trans y)
  · by_cases c1 : t' = t
    · subst c1
      rw [ev_us]
      refine ⟨fun j m hj hm => ?_, ?_⟩
      · by_cases c2 : j = i
        · subst c2
          rw [ev_us] at hm
          exact (Li t' ht').1 j m hj (sub m hm).1
        · rw [ev_un c2] at hm
          exact (Li t' ht').1 j m hj hm
      · by_cases c2 : i = 0
        · subst c2
          rw [ev_us]
          have k1 := (Li t' ht').2
          rw [hL] at nd0 k1
          exact ev_lM_ok nd0 (l1 rfl) k1.1 k1.2
        · rw [ev_un (fun e => c2 e.symm)]
          exact ⟨ev_nk_c (fun m _ => (l0 c2 m).1) (Li t' ht').2.1, ev_pk_c (fun m _ => (l0 c2 m).2) (Li t' ht').2.2⟩
    · rw [ev_un c1]
      refine ⟨(Li t' ht').1, ?_⟩
      by_cases c2 : i = 0
      · subst c2
        obtain ⟨q1, q2, q3, q4⟩ := l1 rfl
        refine ⟨ev_nk_c (fun m hm => ?_) (Li t' ht').2.1, ev_pk_c (fun m hm => ?_) (Li t' ht').2.2⟩
        · exact q2 m (oth t' 0 m ht' c1 (by omega) hm).1
        · exact q4 m (fun e => c1 (ev_ac_tt (j := 0) c ht' ht (by omega) (by omega) hm (hoB m e)).1)
      · exact ⟨ev_nk_c (fun m _ => (l0 c2 m).1) (Li t' ht').2.1, ev_pk_c (fun m _ => (l0 c2 m).2) (Li t' ht').2.2⟩
  · by_cases cj : j < sl.length
    · rw [List.getElem?_append_left cj] at hm
      rw [pk_un (by omega)]
      exact Ar.2.1 j m hm
    · have hj := (List.getElem?_eq_some_iff.mp hm).1
      rw [List.length_append, show [b].length = 1 from rfl] at hj
      have : j = sl.length := by omega
      subst this
      rw [ev_mid] at hm
      have : b = m := by simpa using hm
      rw [pk_us, this]
  · by_cases c1 : t' = t
    · subst c1; rw [ev_us, ev_un (by omega)]; exact Ar.2.2 t' ht'
    · rw [ev_un c1]; exact Ar.2.2 t' ht'
theorem ev_tI_borrow {E E' : Nat → List (Nat × Nat)} {h : Nat → Nat} {L : Nat → Nat → List Nat} {sl : List Nat} {ow : Nat → Nat} {K : Nat → List Nat} {t i n p a b k1 k2 : Nat} {C D : List (Nat × Nat)}
    (I : ev_tI E h L sl ow n 1 4 K sp ks bl sz lf nx pv sr rt) (ht : t < 2) (hi : i < h t) (hpL : p ∈ L t (i + 1)) (hE : E p = C ++ (k1, a) :: (k2, b) :: D) (hn : n = a ∨ n = b)
    (hE' : ∀ m, m ≠ a → m ≠ b → m ≠ p → E' m = E m) (ha : 2 ≤ (E' a).length ∧ (E' a).length ≤ 4) (hb : 2 ≤ (E' b).length ∧ (E' b).length ≤ 4) (hp : (E' p).length = (E p).length)
    (T' : ev_ts E' (h t) (L t) (K t)) (H' : ev_hp E' ks' bl' sz') :
    ev_tI E' h L sl ow p 1 4 K sp ks' bl' sz' lf nx pv sr rt := by
  obtain ⟨H, T, S, c, Li, Ar⟩ := I
  obtain ⟨haL, hbL, hab, hap, hbp, _⟩ := ev_pair (T t ht) (ev_ac_nd c ht) hi hpL hE
  have oth : ∀ t' j m, t' < 2 → t' ≠ t → j ≤ h t' → m ∈ L t' j → m ≠ a ∧ m ≠ b ∧ m ≠ p := by
    intro t' j m ht' hne hj hm
    refine ⟨fun e => ?_, fun e => ?_, fun e => ?_⟩
    · exact hne (ev_ac_tt (j := i) c ht' ht hj (by omega) hm (by rw [e]; exact haL)).1
    · exact hne (ev_ac_tt (j := i) c ht' ht hj (by omega) hm (by rw [e]; exact hbL)).1
    · exact hne (ev_ac_tt (j := i + 1) c ht' ht hj (by omega) hm (by rw [e]; exact hpL)).1
  refine ⟨H', fun t' ht' => ?_, fun t' ht' => ?_, c, Li, Ar⟩
  · by_cases c1 : t' = t
    · subst c1; exact T'
    · refine ev_ts_c (T t' ht') (fun j m hj hm => ?_)
      obtain ⟨q1, q2, q3⟩ := oth t' j m ht' c1 hj hm
      exact hE' m q1 q2 q3
  · intro j m hj hm
    have q := S t' ht' j m hj hm
    by_cases e1 : m = a
    · rw [e1]; exact ⟨fun _ => ⟨Or.inr ha.1, ha.2⟩, fun e => absurd e hap⟩
    · by_cases e2 : m = b
      · rw [e2]; exact ⟨fun _ => ⟨Or.inr hb.1, hb.2⟩, fun e => absurd e hbp⟩
      · have en : m ≠ n := by
          intro e
          rcases hn with y | y
          · exact e1 (e.trans y)
          · exact e2 (e.trans y)
        have q1 := q.1 en
        by_cases e3 : m = p
        · subst e3
          rw [hp]
          refine ⟨fun z => absurd rfl z, fun _ => ?_⟩
          omega
        · rw [hE' m e1 e2 e3]
          exact ⟨fun _ => q1, fun e => absurd e e3⟩
theorem ev_tI_collapse {E : Nat → List (Nat × Nat)} {h : Nat → Nat} {L : Nat → Nat → List Nat} {sl : List Nat} {ow : Nat → Nat} {K : Nat → List Nat} {t n h' k m0 : Nat}
    (I : ev_tI E h L sl ow n 1 4 K sp ks bl sz lf nx pv sr rt) (ht : t < 2) (hh : h t = h' + 1) (hL : L t (h' + 1) = [n]) (hE : E n = [(k, m0)]) :
    ev_TI K (nI (sl.length + 1)) ks bl sz lf nx pv (upd sr sl.length (nI n)) (upd rt t (nI m0)) := by
  obtain ⟨H, T, S, c, Li, Ar⟩ := I
  have Tt := T t ht
  rw [hh] at Tt
  obtain ⟨T1, hr1⟩ := ev_collapse Tt hL hE
  have hnL : n ∈ L t (h' + 1) := by rw [hL]; simp
  have hle : ∀ t' j, j ≤ (ev_u h t h') t' → j ≤ h t' ∧ (t' = t → j ≤ h') := by
    intro t' j hj
    by_cases c1 : t' = t
    · subst c1; rw [ev_us] at hj; exact ⟨by omega, fun _ => hj⟩
    · rw [ev_un c1] at hj; exact ⟨hj, fun e => absurd e c1⟩
  refine ⟨E, ev_u h t h', L, sl ++ [n], ev_u ow n 0, H, fun t' ht' => ?_, fun t' ht' => ?_, ev_ac_shrink c ht hh hL, fun t' ht' => ?_, by rw [List.length_append]; rfl, fun j m hm => ?_, fun t' ht' => ?_⟩
  · by_cases c1 : t' = t
    · subst c1; rw [ev_us]; exact T1
    · rw [ev_un c1]; exact T t' ht'
  · intro j m hj hm
    obtain ⟨g1, g2⟩ := hle t' j hj
    have hmn : m ≠ n := by
      intro e
      have := ev_ac_tt (j := h' + 1) c ht' ht g1 (by omega) hm (by rw [e]; exact hnL)
      have := g2 this.1
      omega
    have q := (S t' ht' j m g1 hm).1 hmn
    by_cases c1 : t' = t
    · subst c1
      rw [ev_us]
      exact ⟨fun _ => ⟨by omega, q.2⟩, fun _ => ⟨by omega, q.2⟩⟩
    · rw [ev_un c1]
      exact ⟨fun _ => q, fun _ => q⟩
  · exact ⟨fun j m hj hm => (Li t' ht').1 j m (hle t' j hj).1 hm, (Li t' ht').2⟩
  · by_cases cj : j < sl.length
    · rw [List.getElem?_append_left cj] at hm
      rw [pk_un (by omega)]
      exact Ar.2.1 j m hm
    · have hj := (List.getElem?_eq_some_iff.mp hm).1
      rw [List.length_append, show [n].length = 1 from rfl] at hj
      have : j = sl.length := by omega
      subst this
      rw [ev_mid] at hm
      have : n = m := by simpa using hm
      rw [pk_us, this]
  · by_cases c1 : t' = t
    · subst c1; rw [ev_us, pk_us]; exact ⟨m0, hr1, rfl⟩
    · rw [ev_un c1, pk_un c1]; exact Ar.2.2 t' ht'
end
end
section
/-! the walk of erase -/
section
variable {fb sp dp kp lg ls fd mn : Int32} {pc us it ln ks bl sz lf nx pv sr rt pa wy oa ov bg : Nat → Int32}
theorem ev_tot_pos {L : Nat → List Nat} : ∀ {h i n : Nat}, i ≤ h → n ∈ L i → 1 ≤ ev_tot L h
  | 0, i, n, hi, hn => by
      have : i = 0 := by omega
      subst this
      exact List.length_pos_of_mem hn
  | h + 1, i, n, hi, hn => by
      show 1 ≤ ev_tot L h + (L (h + 1)).length
      by_cases c : i = h + 1
      · subst c
        have := List.length_pos_of_mem hn
        omega
      · have := ev_tot_pos (L := L) (h := h) (i := i) (n := n) (by omega) hn
        omega
theorem ev_sl_lt {h : Nat → Nat} {L : Nat → Nat → List Nat} {sl : List Nat} {ow : Nat → Nat} (c : ev_ac h L sl ow) {t i n : Nat} (ht : t < 2) (hi : i ≤ h t) (hn : n ∈ L t i) : sl.length < 200 := by
  have q := c.2.2.2
  have p := ev_tot_pos (L := L t) hi hn
  have cc : t = 0 ∨ t = 1 := by omega
  rcases cc with e | e
  · subst e; omega
  · subst e; omega
theorem ev_erase112 {post : SX → Prop} {E : Nat → List (Nat × Nat)} {h : Nat → Nat} {L : Nat → Nat → List Nat} {sl : List Nat} {ow : Nat → Nat} {K : Nat → List Nat} {t i n : Nat} (I : ev_tI E h L sl ow n 1 4 K sp ks bl sz lf nx pv sr rt) (ht : t < 2) (hi : i ≤ h t) (hn : n ∈ L t i) (hc : 2 ≤ (E n).length ∨ i = h t)
    (HP : ∀ sp' sr' rt', ev_TI K sp' ks bl sz lf nx pv sr' rt' → post (fb, sp', dp, kp, lg, ls, fd, mn, pc, us, it, ln, ks, bl, sz, lf, nx, pv, sr', rt', pa, wy, oa, ov, bg)) :
    wX_erase_112 post (nI t) (nI n) fb sp dp kp lg ls fd mn pc us it ln ks bl sz lf nx pv sr rt pa wy oa ov bg := by
  have I0 := I
  obtain ⟨H, T, S, c, Li, Ar⟩ := I
  have n2 := ev_ac_lt c ht hi hn
  have hlf := (Li t ht).1 i n hi hn
  have hs := (S t ht i n hi hn).2 rfl
  obtain ⟨h1, h2, h3⟩ := H n n2
  refine And.intro (vp_in_nI n2 (by omega)) ?_
  rw [nI_clamp (by omega)]
  by_cases c0 : i = 0
  · refine br_f (by rw [hlf, if_pos c0]; decide) ?_
    refine HP sp sr rt (ev_tI_ok I0 (fun t' j ht' hj hm => ?_))
    have tt := ev_ac_tt (j := i) c ht' ht hj hi hm hn
    rw [tt.1]
    omega
  · refine br_t (by rw [hlf, if_neg c0]) ⟨vp_in_nI n2 (by omega), ?_⟩
    rw [h2]
    by_cases c1 : (E n).length = 1
    · have hih : i = h t := by omega
      obtain ⟨h', hh⟩ : ∃ h', h t = h' + 1 := ⟨h t - 1, by omega⟩
      obtain ⟨r, hr⟩ := (T t ht).1
      have hnr : n = r := by rw [hih, hr] at hn; simpa using hn
      subst hnr
      obtain ⟨⟨k, m0⟩, hE⟩ : ∃ e, E n = [e] := List.length_eq_one_iff.mp c1
      have q := h3 0 (k, m0) (by rw [hE]; rfl)
      dsimp only at q
      rw [hh] at hr
      have hsl := ev_sl_lt c ht hi hn
      refine br_t (by rw [c1]; rfl) ⟨ev_in50 (by omega), vp_in_nI ht (by omega), fun g eg s es => ?_⟩
      rw [Ar.1] at es ⊢
      refine ⟨vp_in_nI hsl (by omega), fun r er => ?_⟩
      rw [nI_clamp (by omega), ev_cl50 (by omega), show 5 * n = 5 * n + 0 from rfl, q.2.2.2, ev_ns (by omega)] at eg
      rw [nI_clamp (by omega), ev_nss (by omega)] at er
      rw [nI_1] at es
      rw [eg, es, er]
      exact HP _ _ _ (ev_tI_collapse I0 ht hh hr hE)
    · refine br_f (fun e => c1 ((nI_eq (b := 1) (by omega) (by omega)).mp e)) ?_
      refine HP sp sr rt (ev_tI_ok I0 (fun t' j ht' hj hm => ?_))
      have tt := ev_ac_tt (j := i) c ht' ht hj hi hm hn
      rw [tt.1]
      omega
theorem ev_evenstep {post : SX → Prop} {E : Nat → List (Nat × Nat)} {h : Nat → Nat} {L : Nat → Nat → List Nat} {sl : List Nat} {ow : Nat → Nat} {K : Nat → List Nat} {t i n p a b k1 k2 : Nat} {C D : List (Nat × Nat)}
    (I : ev_tI E h L sl ow n 1 4 K sp ks bl sz lf nx pv sr rt) (ht : t < 2) (hi : i < h t) (hpL : p ∈ L t (i + 1)) (hE : E p = C ++ (k1, a) :: (k2, b) :: D) (hn : n = a ∨ n = b) (hn1 : (E n).length = 1)
    (HP : ∀ E' L' sl' ow' sp' ks' bl' sz' nx' pv' sr', ev_tI E' h L' sl' ow' p 1 4 K sp' ks' bl' sz' lf nx' pv' sr' rt → (∀ j, i + 1 ≤ j → L' t j = L t j) → (∀ j m, i + 1 < j → j ≤ h t → m ∈ L t j → E' m = E m) → post (fb, sp', dp, kp, lg, ls, fd, mn, pc, us, it, ln, ks', bl', sz', lf, nx', pv', sr', rt, pa, wy, oa, ov, bg)) :
    wpX_even post (fb, sp, dp, kp, lg, ls, fd, mn, pc, us, it, ln, ks, bl, sz, lf, nx, pv, sr, rt, pa, wy, oa, ov, bg) (nI p) (nI C.length) := by
  have I0 := I
  obtain ⟨H, T, S, c, Li, Ar⟩ := I
  have N := ev_ac_nd c ht
  obtain ⟨haL, hbL, hab, hap, hbp, _⟩ := ev_pair (T t ht) N hi hpL hE
  have p2 := ev_ac_lt c ht (show i + 1 ≤ h t by omega) hpL
  have hsl := ev_sl_lt c ht (show i ≤ h t by omega) haL
  have gen : ∀ m, m ∈ L t i → 1 ≤ (E m).length ∧ (E m).length ≤ 4 := by
    intro m hm
    have q := S t ht i m (by omega) hm
    by_cases e : m = n
    · have := q.2 e; omega
    · have := q.1 e; omega
  have ga := gen a haL
  have gb := gen b hbL
  have hne : E a ≠ [] := fun e => by rw [e] at ga; simp at ga
  have up : ∀ j m, i + 1 < j → j ≤ h t → m ∈ L t j → m ≠ a ∧ m ≠ b ∧ m ≠ p := by
    intro j m hj hjh hm
    refine ⟨fun e => ?_, fun e => ?_, fun e => ?_⟩
    · have := N.2 j i m hjh (by omega) hm (by rw [e]; exact haL); omega
    · have := N.2 j i m hjh (by omega) hm (by rw [e]; exact hbL); omega
    · have := N.2 j (i + 1) m hjh (by omega) hm (by rw [e]; exact hpL); omega
  by_cases cs : (E a).length + (E b).length < 5
  · obtain ⟨A, B, hAB, T'⟩ := ev_lr_merge (E' := ev_u (ev_u E a (E a ++ E b)) p (C ++ (k1, a) :: D)) (T t ht) N hi hpL hE hne rfl
    have hsp : sp = nI sl.length := Ar.1
    subst hsp
    have hlfa := (Li t ht).1 i a (by omega) haL
    refine ev_even_m (o := ev_hd B none) H p2 hsl hE hab hap hbp cs ?_ (fun k' b' z' n' p' H' l0 l1 => ?_)
    · by_cases c0 : i = 0
      · right
        subst c0
        have lk := (Li t ht).2.1
        rw [hAB, ev_nk_app, ev_nk_cons, ev_nk_cons] at lk
        refine ⟨hlfa, lk.2.2.1, fun q hq => ?_⟩
        obtain ⟨l', hl'⟩ := ev_hd_mem hq
        have hqL : q ∈ L t 0 := by rw [hAB, hl']; simp
        have nd := N.1 0 (by omega)
        rw [hAB, List.nodup_append, List.nodup_cons, List.nodup_cons] at nd
        exact ⟨ev_ac_lt c ht (by omega) hqL, fun e => nd.2.1.2.1 (by rw [hl', e]; simp)⟩
      · left; rw [hlfa, if_neg c0]
    · have I1 := ev_tI_merge (ks' := k') (bl' := b') (sz' := z') (nx' := n') (pv' := p') I0 ht hi hpL hE hAB hn cs rfl T' H' (fun c => l0 (by rw [hlfa, if_neg c])) (fun c => l1 (by rw [hlfa, if_pos c]))
      refine HP _ _ _ _ _ k' b' z' n' p' _ I1 (fun j hj => ?_) (fun j m hj hjh hm => ?_)
      · rw [ev_us, ev_un (by omega)]
      · obtain ⟨u1, u2, u3⟩ := up j m hj hjh hm
        rw [ev_un u3, ev_un u1]
  · rcases hn with e | e
    · subst e
      obtain ⟨e, f, B0, hEb⟩ : ∃ e f B0, E b = e :: f :: B0 := by
        match hb : E b with
        | [] => rw [hb] at gb; simp at gb
        | [x] => rw [hb] at cs; simp at cs; omega
        | x :: y :: l => exact ⟨x, y, l, rfl⟩
      have T' := ev_lr_bl (E' := ev_u (ev_u (ev_u E n (E n ++ [e])) b (f :: B0)) p (C ++ (k1, n) :: (f.1, b) :: D)) (T t ht) N hi hpL hE hne hEb rfl
      refine ev_even_l H p2 hE hab hap hbp (by omega) (by omega) (by omega) hEb (fun k' b' z' H' => ?_)
      have lb : B0.length + 2 = (E b).length := by rw [hEb]; simp
      have I1 := ev_tI_borrow (ks' := k') (bl' := b') (sz' := z') I0 ht hi hpL hE (Or.inl rfl) (fun m m1 m2 m3 => by rw [ev_un m3, ev_un m2, ev_un m1])
        (by rw [ev_un hap, ev_un hab, ev_us]; simp; omega) (by rw [ev_un hbp, ev_us]; simp; omega) (by rw [ev_us, hE]; simp) T' H'
      refine HP _ L _ _ _ k' b' z' _ _ _ I1 (fun j hj => rfl) (fun j m hj hjh hm => ?_)
      obtain ⟨u1, u2, u3⟩ := up j m hj hjh hm
      rw [ev_un u3, ev_un u2, ev_un u1]
    · subst e
      obtain ⟨A0, e, hEa⟩ : ∃ A0 e, E a = A0 ++ [e] := ⟨(E a).dropLast, (E a).getLast hne, (List.dropLast_concat_getLast hne).symm⟩
      have la : A0.length + 1 = (E a).length := by rw [hEa]; simp
      have hA0 : A0 ≠ [] := fun z => by rw [z] at la; simp at la; omega
      have T' := ev_lr_br (E' := ev_u (ev_u (ev_u E n (e :: E n)) a A0) p (C ++ (k1, a) :: (e.1, n) :: D)) (T t ht) N hi hpL hE hA0 hEa rfl
      refine ev_even_r H p2 hE hab hap hbp (by omega) (by omega) (by omega) hEa (fun k' b' z' H' => ?_)
      have I1 := ev_tI_borrow (ks' := k') (bl' := b') (sz' := z') I0 ht hi hpL hE (Or.inr rfl) (fun m m1 m2 m3 => by rw [ev_un m3, ev_un m1, ev_un m2])
        (by rw [ev_un hap, ev_us]; omega) (by rw [ev_un hbp, ev_un (fun z => hab z.symm), ev_us]; simp; omega) (by rw [ev_us, hE]; simp) T' H'
      refine HP _ L _ _ _ k' b' z' _ _ _ I1 (fun j hj => rfl) (fun j m hj hjh hm => ?_)
      obtain ⟨u1, u2, u3⟩ := up j m hj hjh hm
      rw [ev_un u3, ev_un u1, ev_un u2]
theorem ev_erase38 {post : SX → Prop} {h : Nat → Nat} {K : Nat → List Nat} {t : Nat} {p w : Nat → Nat} (ht : t < 2) (hh9 : h t ≤ 9)
    (HP : ∀ sp' dp' ks' bl' sz' nx' pv' sr' rt', ev_TI K sp' ks' bl' sz' lf nx' pv' sr' rt' → post (fb, sp', dp', kp, lg, ls, fd, mn, pc, us, it, ln, ks', bl', sz', lf, nx', pv', sr', rt', pa, wy, oa, ov, bg)) :
    ∀ (d i : Nat) (E : Nat → List (Nat × Nat)) (L : Nat → Nat → List Nat) (sl : List Nat) (ow : Nat → Nat) (n : Nat) (sp : Int32) (ks bl sz nx pv sr : Nat → Int32), i + d = h t →
      ev_tI E h L sl ow n 1 4 K sp ks bl sz lf nx pv sr rt → n ∈ L t i → ev_pth E (h t) (L t) pa wy p w i → p i = n →
      wX_erase_38 post (nI t) (d + 1) (nI n) fb sp (nI d) kp lg ls fd mn pc us it ln ks bl sz lf nx pv sr rt pa wy oa ov bg := by
  intro d
  induction d with
  | zero =>
    intro i E L sl ow n sp ks bl sz nx pv sr hid I hn hp hpi
    have hi : i = h t := by omega
    have n2 := ev_ac_lt I.2.2.2.1 ht (show i ≤ h t by omega) hn
    have h2 := (I.1 n n2).2.1
    have h5 := (I.1 n n2).1
    refine And.intro (vp_in_nI n2 (by omega)) ?_
    rw [nI_clamp (by omega), h2]
    have g : wX_erase_112 post (nI t) (nI n) fb sp (nI 0) kp lg ls fd mn pc us it ln ks bl sz lf nx pv sr rt pa wy oa ov bg := ev_erase112 I ht (by omega) hn (Or.inr hi) (fun sp' sr' rt' hT => HP sp' _ ks bl sz nx pv sr' rt' hT)
    exact br_c (fun _ => g) (fun _ => br_t (nI_le (b := 0) (Nat.le_refl _) (by omega)) g)
  | succ d ih =>
    intro i E L sl ow n sp ks bl sz nx pv sr hid I hn hp hpi
    have hi : i < h t := by omega
    have I0 := I
    obtain ⟨H, T, S, c, Li, Ar⟩ := I
    have n2 := ev_ac_lt c ht (show i ≤ h t by omega) hn
    obtain ⟨h1, h2, h3⟩ := H n n2
    refine And.intro (vp_in_nI n2 (by omega)) ?_
    rw [nI_clamp (by omega), h2]
    by_cases c2 : 2 ≤ (E n).length
    · exact br_t (nI_le (a := 2) c2 (by omega)) (ev_erase112 I0 ht (by omega) hn (Or.inl c2) (fun sp' sr' rt' hT => HP sp' _ ks bl sz nx pv sr' rt' hT))
    · have hn1 : (E n).length = 1 := by
        have := (S t ht i n (by omega) hn).2 rfl
        omega
      refine br_f (nI_ge (b := 2) (by omega) (by omega)) (br_f (nI_ge (a := 0) (by omega) (by omega)) (fun y ey => ?_))
      rw [nI_pred] at ey
      subst ey
      obtain ⟨pa1, pa2, pa3, C0, s, D0, hEp, hCw⟩ := hp (i + 1) (by omega) (by omega)
      rw [show i + 1 - 1 = i from rfl, hpi] at hEp
      have hd : h t - (i + 1) = d := by omega
      rw [hd] at pa1 pa2
      have hd10 : vp_in (nI d) 10 := vp_in_nI (by omega) (by omega)
      refine ⟨hd10, fun x ex => ⟨hd10, fun v ev => ?_⟩⟩
      rw [nI_clamp (by omega), pa1] at ex
      rw [nI_clamp (by omega), pa2, ← hCw] at ev
      subst ex
      subst ev
      have N := ev_ac_nd c ht
      have hnp : p (i + 1) ≠ n := fun e => by
        have := N.2 i (i + 1) n (by omega) (by omega) hn (by rw [← e]; exact pa3)
        omega
      have szp := (S t ht (i + 1) (p (i + 1)) (by omega) pa3).1 hnp
      have step : ∀ (C D : List (Nat × Nat)) (k1 a k2 b : Nat), E (p (i + 1)) = C ++ (k1, a) :: (k2, b) :: D → (n = a ∨ n = b) →
          wX_erase_103 post (wX_erase_38 post (nI t) (d + 1)) (nI t) (nI (p (i + 1))) (nI C.length) (nI (p (i + 1))) fb sp (nI d) kp lg ls fd mn pc us it ln ks bl sz lf nx pv sr rt pa wy oa ov bg := by
        intro C D k1 a k2 b hE hab
        refine ev_evenstep I0 ht hi pa3 hE hab hn1 (fun E' L' sl' ow' sp' ks' bl' sz' nx' pv' sr' I1 g1 g2 => ?_)
        refine ih (i + 1) E' L' sl' ow' (p (i + 1)) sp' ks' bl' sz' nx' pv' sr' (by omega) I1 (by rw [g1 (i + 1) (by omega)]; exact pa3) ?_ rfl
        intro j hj hjh
        obtain ⟨v1, v2, v3, v4⟩ := hp j (by omega) hjh
        rw [g1 j (by omega), g2 j (p j) hj hjh v3]
        exact ⟨v1, v2, v3, v4⟩
      rcases List.eq_nil_or_concat C0 with e0 | ⟨C, ⟨k1, a⟩, e0⟩
      · subst e0
        cases D0 with
        | nil => rw [hEp] at szp; simp at szp; omega
        | cons e1 D => exact br_t (nI_le (b := 0) (Nat.le_refl _) (by omega)) (step [] D s n e1.1 e1.2 hEp (Or.inl rfl))
      · rw [List.concat_eq_append] at e0
        subst e0
        have hl : (C ++ [(k1, a)]).length = C.length + 1 := by simp
        have h5 := (H (p (i + 1)) (ev_ac_lt c ht (show i + 1 ≤ h t by omega) pa3)).1
        have hC5 : C.length < 5 := by
          rw [hEp] at h5
          simp at h5
          omega
        rw [hl]
        refine br_f (nI_ge (a := 0) (by omega) (by omega)) ?_
        rw [nI_pred]
        exact step C D0 k1 a s n (by rw [hEp]; simp) (Or.inr rfl)
theorem ev_erase10 {post : SX → Prop} {E : Nat → List (Nat × Nat)} {c key v : Nat} {x1 : Int32} {C D : List (Nat × Nat)} (h : ev_hp E ks bl sz) (hc : c < 200) (hE : E c = C ++ (key, v) :: D) (hC : ∀ e, e ∈ C → e.1 ≠ key)
    (HP : ∀ ks' bl' sz', ev_hp (ev_u E c (C ++ D)) ks' bl' sz' → ∃ n38, wX_erase_38 post x1 n38 (nI c) fb sp dp kp lg ls fd mn pc us it ln ks' bl' sz' lf nx pv sr rt pa wy oa ov bg) :
    ∀ (C2 C1 : List (Nat × Nat)), C = C1 ++ C2 → wX_erase_10 post x1 (nI key) (nI c) fb sp dp kp lg ls fd mn pc us it ln ks bl sz lf nx pv sr rt pa wy oa ov bg (C2.length + 1) (nI C1.length) := by
  obtain ⟨h1, h2, h3⟩ := h c hc
  have hl : (E c).length = C.length + D.length + 1 := by rw [hE]; simp; omega
  intro C2
  induction C2 with
  | nil =>
    intro C1 e
    rw [List.append_nil] at e
    subst e
    have q := h3 C.length (key, v) (by rw [hE]; exact ev_mid)
    dsimp only at q
    refine And.intro (ev_in5 (by omega)) (br_t (by rw [ev_cl5 (by omega), q.2.2.1]) ?_)
    exact ev_shut (A := C) (B := D) (e0 := (key, v)) h hc hE HP
  | cons e C2 ih =>
    intro C1 eC
    have hlC : C.length = C1.length + C2.length + 1 := by rw [eC]; simp; omega
    have q := h3 C1.length e (by rw [hE, eC, List.append_assoc]; exact ev_mid)
    have hk : key < 2 ^ 24 := (h3 C.length (key, v) (by rw [hE]; exact ev_mid)).1
    refine And.intro (ev_in5 (by omega)) (br_f ?_ (fun y ey => ?_))
    · rw [ev_cl5 (by omega), q.2.2.1]
      intro z
      exact hC e (by rw [eC]; simp) ((nI_eq (by omega) (by omega)).mp z)
    · rw [nI_1, show C1.length + 1 = (C1 ++ [e]).length from by simp] at ey
      subst ey
      exact ih (C1 ++ [e]) (by rw [eC]; simp)
theorem ev_erase {post : SX → Prop} {K : Nat → List Nat} {t key : Nat} (I : ev_TI K sp ks bl sz lf nx pv sr rt) (ht : t < 2) (hk : key < 2 ^ 24) (hold : key ∈ K t) (hK : (K t).length ≤ 96)
    (HP : ∀ X Y sp' dp' ks' bl' sz' nx' pv' sr' rt' pa' wy', K t = X ++ key :: Y → (X ++ Y).Pairwise (· < ·) → ev_TI (ev_u K t (X ++ Y)) sp' ks' bl' sz' lf nx' pv' sr' rt' → post (fb, sp', dp', kp, lg, ls, fd, mn, pc, us, it, ln, ks', bl', sz', lf, nx', pv', sr', rt', pa', wy', oa, ov, bg)) :
    wpX_erase post (fb, sp, dp, kp, lg, ls, fd, mn, pc, us, it, ln, ks, bl, sz, lf, nx, pv, sr, rt, pa, wy, oa, ov, bg) (nI t) (nI key) := by
  obtain ⟨E, h, L, sl, ow, I⟩ := I
  refine ev_descend (dp := dp) I ht hK hk (fun c pa' wy' p w hlf hpth hp0 hc0 => ?_)
  obtain ⟨H, T, S, a, Li, Ar⟩ := I
  obtain ⟨LA, LB, hL, hA, hB, hsep⟩ := hlf
  have hc : c < 200 := ev_ac_lt a ht (by omega) hc0
  have cnt := ev_tI_cnt (T t ht) (S t ht) (Nat.le_refl _) hK
  have hKe : K t = (LA.flatMap E).map Prod.fst ++ ((E c).map Prod.fst ++ (LB.flatMap E).map Prod.fst) := by
    rw [← (T t ht).2.2.2.2.1, hL, List.flatMap_append, List.flatMap_cons]; simp
  have hin : key ∈ (E c).map Prod.fst := by
    rw [hKe] at hold
    rcases List.mem_append.mp hold with x | x
    · have := hA key x; omega
    · rcases List.mem_append.mp x with y | y
      · exact y
      · have := hB key y; omega
  obtain ⟨⟨k0, v⟩, he, hk0⟩ := List.mem_map.mp hin
  have hk0' : k0 = key := hk0
  subst hk0'
  obtain ⟨C, D, hE⟩ := List.append_of_mem he
  have so := ev_leaf_sorted (T t ht) hc0
  rw [hE, List.map_append, List.pairwise_append] at so
  have hC : ∀ e, e ∈ C → e.1 ≠ k0 := by
    intro e he2 e3
    have := so.2.2 e.1 (List.mem_map_of_mem he2) k0 (by simp)
    omega
  refine Exists.intro (C.length + 1) ?_
  refine ev_erase10 (E := E) H hc hE hC (fun k1 b1 z1 H1 => ?_) C [] rfl
  refine Exists.intro (h t + 1) ?_
  obtain ⟨hK2, T1⟩ := ev_ldel (T t ht) (ev_ac_nd a ht) hL hE
  have szc := S t ht 0 c (by omega) hc0
  have ag : ∀ t' j m, t' < 2 → (t' ≠ t ∨ j ≠ 0) → j ≤ h t' → m ∈ L t' j → (ev_u E c (C ++ D)) m = E m := by
    intro t' j m ht' hne hj hm
    refine ev_un (fun e => ?_)
    have := ev_ac_tt (j := 0) a ht' ht hj (by omega) hm (by rw [e]; exact hc0)
    omega
  refine ev_erase38 (h := h) (K := ev_u K t _) (t := t) (p := p) (w := w) ht (by omega) (fun sp' dp' ks' bl' sz' nx' pv' sr' rt' hTI => HP _ _ sp' dp' ks' bl' sz' nx' pv' sr' rt' pa' wy' hK2 T1.2.2.2.2.2 hTI) (h t) 0 (ev_u E c (C ++ D)) L sl ow c sp k1 b1 z1 nx pv sr (by omega) ⟨H1, fun t' ht' => ?_, fun t' ht' => ?_, a, Li, Ar⟩ hc0 ?_ hp0
  · by_cases c1 : t' = t
    · subst c1; rw [ev_us]; exact T1
    · rw [ev_un c1]; exact ev_ts_c (T t' ht') (fun j m hj hm => ag t' j m ht' (Or.inl c1) hj hm)
  · intro j m hj hm
    by_cases e : m = c
    · subst e
      refine ⟨fun q => absurd rfl q, fun _ => ?_⟩
      have tt := ev_ac_tt (j := 0) a ht' ht hj (by omega) hm hc0
      have hq : (h t = 0 ∨ 2 ≤ (E m).length) ∧ (E m).length ≤ 4 := by
        by_cases e0 : m = 0
        · exact szc.2 e0
        · exact szc.1 e0
      rw [ev_us]
      rw [hE] at hq
      rw [tt.1]
      simp only [List.length_append, List.length_cons] at hq ⊢
      omega
    · refine ⟨fun _ => ?_, fun q => absurd q e⟩
      rw [ev_un e]
      have q := S t' ht' j m hj hm
      by_cases e0 : m = 0
      · exact q.2 e0
      · exact q.1 e0
  · intro j hj hjh
    obtain ⟨v1, v2, v3, v4⟩ := hpth j hj hjh
    refine ⟨v1, v2, v3, ?_⟩
    rw [ag t j (p j) ht (Or.inr (by omega)) hjh v3]
    exact v4
end
end
section
/-! free extents: runs of free blocks, keys by size, the walks of bySize, leave and enter -/
def ev_rf (F : Nat → Bool) : Nat → Nat → Nat
  | 0, _ => 0
  | n + 1, b => if F b = true then ev_rf F n (b + 1) + 1 else 0
def ev_rl (F : Nat → Bool) (b : Nat) : Nat := ev_rf F (64 - b % 64) b
/-- from b on there are exactly l free blocks in a row in its group -/
def ev_rn (F : Nat → Bool) (b l : Nat) : Prop := (∀ j, j < l → F (b + j) = true) ∧ b % 64 + l ≤ 64 ∧ (b % 64 + l = 64 ∨ F (b + l) = false)
theorem ev_rf_ok (F : Nat → Bool) : ∀ n b, (∀ j, j < ev_rf F n b → F (b + j) = true) ∧ ev_rf F n b ≤ n ∧ (ev_rf F n b = n ∨ F (b + ev_rf F n b) = false)
  | 0, b => ⟨fun j hj => absurd hj (Nat.not_lt_zero _), Nat.le_refl _, Or.inl rfl⟩
  | n + 1, b => by
      obtain ⟨h1, h2, h3⟩ := ev_rf_ok F n (b + 1)
      by_cases c : F b = true
      · have e : ev_rf F (n + 1) b = ev_rf F n (b + 1) + 1 := if_pos c
        rw [e]
        refine ⟨fun j hj => ?_, by omega, ?_⟩
        · cases j with
          | zero => exact c
          | succ j => rw [show b + (j + 1) = b + 1 + j from by omega]; exact h1 j (by omega)
        · rcases h3 with h3 | h3
          · left; omega
          · right; rw [show b + (ev_rf F n (b + 1) + 1) = b + 1 + ev_rf F n (b + 1) from by omega]; exact h3
      · have e : ev_rf F (n + 1) b = 0 := if_neg c
        rw [e]
        exact ⟨fun j hj => absurd hj (Nat.not_lt_zero _), Nat.zero_le _, Or.inr (by simpa using c)⟩
theorem ev_rl_ok (F : Nat → Bool) (b : Nat) : ev_rn F b (ev_rl F b) := by
  obtain ⟨h1, h2, h3⟩ := ev_rf_ok F (64 - b % 64) b
  unfold ev_rl
  refine ⟨h1, by omega, ?_⟩
  rcases h3 with h3 | h3
  · left; omega
  · exact Or.inr h3
theorem ev_rn_u {F : Nat → Bool} {b l l' : Nat} (h : ev_rn F b l) (h' : ev_rn F b l') : l = l' := by
  obtain ⟨a1, a2, a3⟩ := h
  obtain ⟨b1, b2, b3⟩ := h'
  rcases Nat.lt_trichotomy l l' with c | c | c
  · rcases a3 with a3 | a3
    · omega
    · rw [b1 l c] at a3; simp at a3
  · exact c
  · rcases b3 with b3 | b3
    · omega
    · rw [a1 l' c] at b3; simp at b3
theorem ev_rl_e {F : Nat → Bool} {b l : Nat} (h : ev_rn F b l) : ev_rl F b = l := ev_rn_u (ev_rl_ok F b) h
/-- b is the first block of a free extent -/
def ev_st (F : Nat → Bool) (s : Nat) : Prop := s < 192 ∧ F s = true ∧ (s % 64 = 0 ∨ F (s - 1) = false)
theorem ev_rl_pos {F : Nat → Bool} {s : Nat} (h : F s = true) : 1 ≤ ev_rl F s := by
  obtain ⟨a1, a2, a3⟩ := ev_rl_ok F s
  by_cases c : ev_rl F s = 0
  · rw [c] at a3
    rcases a3 with a3 | a3
    · omega
    · rw [Nat.add_zero, h] at a3; simp at a3
  · omega
theorem ev_rl_le (F : Nat → Bool) (s : Nat) : ev_rl F s ≤ 64 := by
  have := (ev_rl_ok F s).2.1
  omega
/-- every free block lies in a run that begins at a start -/
theorem ev_run {F : Nat → Bool} : ∀ {b : Nat}, b < 192 → F b = true → ∃ s, ev_st F s ∧ s ≤ b ∧ s / 64 = b / 64 ∧ ∀ x, s ≤ x → x ≤ b → F x = true
  | 0, hb, h => ⟨0, ⟨hb, h, Or.inl rfl⟩, Nat.le_refl _, rfl, fun x h1 h2 => by rw [show x = 0 from by omega]; exact h⟩
  | b + 1, hb, h => by
      by_cases c : (b + 1) % 64 = 0 ∨ F b = false
      · exact ⟨b + 1, ⟨hb, h, c⟩, Nat.le_refl _, rfl, fun x h1 h2 => by rw [show x = b + 1 from by omega]; exact h⟩
      · have c1 : ¬ (b + 1) % 64 = 0 := fun e => c (Or.inl e)
        have c2 : F b = true := by
          cases hF : F b with
          | true => rfl
          | false => exact absurd (Or.inr hF) c
        obtain ⟨s, s1, s2, s3, s4⟩ := ev_run (b := b) (by omega) c2
        refine ⟨s, s1, by omega, by omega, fun x h1 h2 => ?_⟩
        by_cases e : x = b + 1
        · rw [e]; exact h
        · exact s4 x h1 (by omega)
/-- starts are two apart but across groups: halves are different -/
theorem ev_st_half {F : Nat → Bool} {s s' : Nat} (h : ev_st F s) (h' : ev_st F s') (lt : s < s') : s / 2 < s' / 2 := by
  by_cases c : s' = s + 1
  · rcases h'.2.2 with e | e
    · omega
    · rw [c, Nat.add_sub_cancel, h.2.1] at e; simp at e
  · omega
theorem ev_sorted_len : ∀ {l : List Nat} {a N : Nat}, l.Pairwise (· < ·) → (∀ x, x ∈ l → a ≤ x) → (∀ x, x ∈ l → x < N) → l.length ≤ N - a
  | [], _, _, _, _, _ => by simp
  | y :: l, a, N, h, h1, h2 => by
      rw [List.pairwise_cons] at h
      have y1 := h1 y (by simp)
      have y2 := h2 y (by simp)
      have := ev_sorted_len (l := l) (a := y + 1) (N := N) h.2 (fun x hx => h.1 x hx) (fun x hx => h2 x (by simp [hx]))
      rw [List.length_cons]; omega
theorem ev_half_len {F : Nat → Bool} {l : List Nat} (h : l.Pairwise (· < ·)) (hF : ∀ x, x ∈ l → ev_st F x) : l.length ≤ 96 := by
  have p : (l.map (· / 2)).Pairwise (· < ·) := by
    rw [List.pairwise_map]
    exact h.imp_of_mem (fun {a b} ha hb lt => ev_st_half (hF a ha) (hF b hb) lt)
  have := ev_sorted_len (a := 0) (N := 96) p (fun x _ => Nat.zero_le _) (fun x hx => by
    obtain ⟨y, hy, rfl⟩ := List.mem_map.mp hx
    have := (hF y hy).1
    show y / 2 < 96
    omega)
  simpa using this
/-- a new start among sorted ones: there is room for it -/
theorem ev_ins_sorted : ∀ {l : List Nat} {v : Nat}, l.Pairwise (· < ·) → v ∉ l → ∃ A B, l = A ++ B ∧ (A ++ v :: B).Pairwise (· < ·)
  | [], v, _, _ => ⟨[], [], rfl, by simp⟩
  | y :: l, v, h, hv => by
      rw [List.pairwise_cons] at h
      by_cases c : v < y
      · refine ⟨[], y :: l, rfl, ?_⟩
        rw [List.nil_append, List.pairwise_cons, List.pairwise_cons]
        refine ⟨fun x hx => ?_, h⟩
        rcases List.mem_cons.mp hx with e | e
        · rw [e]; exact c
        · have := h.1 x e; omega
      · have hy : y < v := by
          have : v ≠ y := fun e => hv (by simp [e])
          omega
        obtain ⟨A, B, e, p⟩ := ev_ins_sorted (l := l) (v := v) h.2 (fun q => hv (by simp [q]))
        refine ⟨y :: A, B, by rw [e]; rfl, ?_⟩
        rw [List.cons_append, List.pairwise_cons]
        refine ⟨fun x hx => ?_, p⟩
        rcases List.mem_append.mp hx with q | q
        · exact h.1 x (by rw [e]; simp [q])
        · rcases List.mem_cons.mp q with q | q
          · rw [q]; exact hy
          · exact h.1 x (by rw [e]; simp [q])
theorem ev_room {F : Nat → Bool} {l : List Nat} {v : Nat} (h : l.Pairwise (· < ·)) (hv : v ∉ l) (hF : ∀ x, x ∈ l → ev_st F x) (hFv : ev_st F v) : l.length + 1 ≤ 96 := by
  obtain ⟨A, B, e, p⟩ := ev_ins_sorted h hv
  have := ev_half_len (F := F) p (fun x hx => by
    rcases List.mem_append.mp hx with q | q
    · exact hF x (by rw [e]; simp [q])
    · rcases List.mem_cons.mp q with q | q
      · rw [q]; exact hFv
      · exact hF x (by rw [e]; simp [q]))
  rw [e]
  simp only [List.length_append, List.length_cons] at this ⊢
  omega
def ev_ky (s l : Nat) : Nat := s / 64 * 65536 + l * 256 + s
theorem ev_ky_inj {s s' l l' : Nat} (h : s < 192) (h' : s' < 192) (hl : l ≤ 64) (hl' : l' ≤ 64) (e : ev_ky s l = ev_ky s' l') : s = s' ∧ l = l' := by
  unfold ev_ky at e
  omega
theorem ev_ky_lt {s l : Nat} (h : s < 192) (hl : l ≤ 64) : ev_ky s l < 2 ^ 24 := by
  unfold ev_ky
  omega
theorem ev_or {a b k : Nat} (hb : b < 2 ^ k) (h : a * 2 ^ k + b < 2 ^ 31) : nI (a * 2 ^ k) ||| nI b = nI (a * 2 ^ k + b) := by
  have e : a * 2 ^ k + b = a * 2 ^ k ||| b := by
    rw [Nat.mul_comm a]; exact Nat.two_pow_add_eq_or_of_lt hb a
  apply Int32.toBitVec_inj.mp
  apply BitVec.eq_of_toNat_eq
  rw [Int32.toBitVec_or, BitVec.toNat_or, pk_tn (by omega), pk_tn (by omega), pk_tn (by omega), e]
theorem ev_or2 {a b c : Nat} (k p : Nat) (hp : 2 ^ k = p) (hc : c = a * p + b) (hb : b < p) (h : a * p + b < 2 ^ 31) {x : Nat} (hx : x = a * p) : nI x ||| nI b = nI c := by
  subst hp hc hx
  exact ev_or hb h
theorem ev_bySize {post : Int32 → Prop} {s l : Nat} (hs : s < 192) (hl : l ≤ 64) (H : post (nI (ev_ky s l))) : wpX_bySize post (nI s) (nI l) := by
  refine And.intro (by decide) ?_
  rw [show (nI s / 64 : Int32) = nI (s / 64) from pk_div (d := 64) (by omega) (by omega) (by omega),
    pk_shlN ((16 : Int32) &&& 31) 16 (by decide) (by omega), pk_shlN ((8 : Int32) &&& 31) 8 (by decide) (by omega),
    ev_or2 (a := s / 64) (c := s / 64 * 65536 + l * 256) 16 65536 (by decide) (by omega) (by omega) (by omega) (by omega),
    ev_or2 (a := s / 64 * 256 + l) (c := ev_ky s l) 8 256 (by decide) (by unfold ev_ky; omega) (by omega) (by omega) (by omega)]
  exact H
/-- what the two trees and the lengths say of a set S of extents -/
def ev_FX (S : Nat → Prop) (len : Nat → Nat) (K : Nat → List Nat) (ln : Nat → Int32) : Prop :=
  (∀ s, s ∈ K 0 ↔ S s) ∧ (∀ x, x ∈ K 1 ↔ ∃ s, S s ∧ x = ev_ky s (len s)) ∧ (K 0).length = (K 1).length ∧ (∀ s, S s → s < 192 ∧ 1 ≤ len s ∧ len s ≤ 64 ∧ ln s = nI (len s))
theorem ev_FX_ext {S S' : Nat → Prop} {len len' : Nat → Nat} {K : Nat → List Nat} {ln : Nat → Int32} (h : ev_FX S len K ln) (h1 : ∀ s, S' s ↔ S s) (h2 : ∀ s, S s → len' s = len s) : ev_FX S' len' K ln := by
  obtain ⟨a, b, c, d⟩ := h
  refine ⟨fun s => (a s).trans (h1 s).symm, fun x => (b x).trans ⟨fun ⟨s, q, e⟩ => ⟨s, (h1 s).mpr q, by rw [h2 s q]; exact e⟩, fun ⟨s, q, e⟩ => ⟨s, (h1 s).mp q, by rw [← h2 s ((h1 s).mp q)]; exact e⟩⟩, c, fun s q => ?_⟩
  have := d s ((h1 s).mp q)
  rw [h2 s ((h1 s).mp q)]
  exact this
section
variable {fb sp dp kp lg ls fd mn : Int32} {pc us it ln ks bl sz lf nx pv sr rt pa wy oa ov bg : Nat → Int32}
theorem ev_TI_sorted {K : Nat → List Nat} {t : Nat} (I : ev_TI K sp ks bl sz lf nx pv sr rt) (ht : t < 2) : (K t).Pairwise (· < ·) := by
  obtain ⟨E, h, L, sl, ow, I⟩ := I
  exact (I.2.1 t ht).2.2.2.2.2
theorem ev_01 {K : Nat → List Nat} (h0 : (K 0).length ≤ 96) (h1 : (K 1).length ≤ 96) : ∀ t', t' < 2 → (K t').length ≤ 96 := by
  intro t' ht'
  have : t' = 0 ∨ t' = 1 := by omega
  rcases this with e | e
  · rw [e]; exact h0
  · rw [e]; exact h1
theorem ev_leave {post : SX → Prop} {S : Nat → Prop} {len : Nat → Nat} {K : Nat → List Nat} {s : Nat} (X : ev_FX S len K ln) (I : ev_TI K sp ks bl sz lf nx pv sr rt) (hs : S s) (hK : (K 0).length ≤ 96)
    (H : ∀ K' sp' dp' ks' bl' sz' nx' pv' sr' rt' pa' wy', ev_FX (fun x => S x ∧ x ≠ s) len K' ln → ev_TI K' sp' ks' bl' sz' lf nx' pv' sr' rt' → post (fb, sp', dp', kp, lg, ls, fd, mn, pc, us, it, ln, ks', bl', sz', lf, nx', pv', sr', rt', pa', wy', oa, ov, bg)) :
    wpX_leave post (fb, sp, dp, kp, lg, ls, fd, mn, pc, us, it, ln, ks, bl, sz, lf, nx, pv, sr, rt, pa, wy, oa, ov, bg) (nI s) := by
  obtain ⟨x1, x2, x3, x4⟩ := X
  obtain ⟨s1, s2, s3, s4⟩ := x4 s hs
  have so0 := ev_TI_sorted I (t := 0) (by omega)
  have so1 := ev_TI_sorted I (t := 1) (by omega)
  refine ev_erase (t := 0) (dp := dp) I (by omega) (by omega) ((x1 s).mpr hs) hK (fun X Y sp' dp' ks' bl' sz' nx' pv' sr' rt' pa' wy' e0 p0 I1 => ?_)
  refine And.intro (vp_in_nI s1 (by omega)) ?_
  rw [nI_clamp (by omega), s4]
  refine ev_bySize s1 s3 ?_
  have K1 : (ev_u K 0 (X ++ Y)) 1 = K 1 := ev_un (by omega)
  refine ev_erase (t := 1) I1 (by omega) (ev_ky_lt s1 s3) (by rw [K1]; exact (x2 _).mpr ⟨s, hs, rfl⟩) (by rw [K1]; omega) (fun X2 Y2 sp2 dp2 ks2 bl2 sz2 nx2 pv2 sr2 rt2 pa2 wy2 e1 p1 I2 => ?_)
  rw [K1] at e1
  refine H _ sp2 dp2 ks2 bl2 sz2 nx2 pv2 sr2 rt2 pa2 wy2 ?_ I2
  have k0 : (ev_u (ev_u K 0 (X ++ Y)) 1 (X2 ++ Y2)) 0 = X ++ Y := by rw [ev_un (by omega), ev_us]
  have k1 : (ev_u (ev_u K 0 (X ++ Y)) 1 (X2 ++ Y2)) 1 = X2 ++ Y2 := ev_us
  rw [e0, List.pairwise_append, List.pairwise_cons] at so0
  rw [e1, List.pairwise_append, List.pairwise_cons] at so1
  refine ⟨fun y => ?_, fun y => ?_, ?_, fun y hy => x4 y hy.1⟩
  · rw [k0]
    show _ ↔ S y ∧ y ≠ s
    rw [← x1 y, e0]
    simp only [List.mem_append, List.mem_cons]
    constructor
    · intro h
      rcases h with h | h
      · have := so0.2.2 y h s (by simp)
        exact ⟨Or.inl h, by omega⟩
      · have := so0.2.1.1 y h
        exact ⟨Or.inr (Or.inr h), by omega⟩
    · intro ⟨h, hn⟩
      rcases h with h | h | h
      · exact Or.inl h
      · exact absurd h hn
      · exact Or.inr h
  · rw [k1]
    have m1 : y ∈ X2 ++ Y2 ↔ y ∈ K 1 ∧ y ≠ ev_ky s (len s) := by
      rw [e1]
      simp only [List.mem_append, List.mem_cons]
      constructor
      · intro h
        rcases h with h | h
        · have := so1.2.2 y h (ev_ky s (len s)) (by simp)
          exact ⟨Or.inl h, by omega⟩
        · have := so1.2.1.1 y h
          exact ⟨Or.inr (Or.inr h), by omega⟩
      · intro ⟨h, hn⟩
        rcases h with h | h | h
        · exact Or.inl h
        · exact absurd h hn
        · exact Or.inr h
    rw [m1, x2 y]
    constructor
    · rintro ⟨⟨z, hz, e⟩, hn⟩
      exact ⟨z, ⟨hz, fun ez => hn (by rw [e, ez])⟩, e⟩
    · rintro ⟨z, ⟨hz, hzs⟩, e⟩
      refine ⟨⟨z, hz, e⟩, fun ey => ?_⟩
      obtain ⟨z1, z2, z3, z4⟩ := x4 z hz
      exact hzs (ev_ky_inj z1 s1 z3 s3 (e.symm.trans ey)).1
  · rw [k0, k1]
    rw [e0, e1] at x3
    simp only [List.length_append, List.length_cons] at x3 ⊢
    omega
theorem ev_enter {post : SX → Prop} {S : Nat → Prop} {len : Nat → Nat} {K : Nat → List Nat} {s l : Nat} {F : Nat → Bool} (X : ev_FX S len K ln) (I : ev_TI K sp ks bl sz lf nx pv sr rt) (hs : ¬ S s) (hF : ∀ x, S x → ev_st F x) (hFs : ev_st F s) (hl : 1 ≤ l) (hl' : l ≤ 64)
    (H : ∀ K' sp' dp' ks' bl' sz' lf' nx' pv' rt' pa' wy', ev_FX (fun x => S x ∨ x = s) (ev_u len s l) K' (upd ln s (nI l)) → ev_TI K' sp' ks' bl' sz' lf' nx' pv' sr rt' → post (fb, sp', dp', kp, lg, ls, fd, mn, pc, us, it, upd ln s (nI l), ks', bl', sz', lf', nx', pv', sr, rt', pa', wy', oa, ov, bg)) :
    wpX_enter post (fb, sp, dp, kp, lg, ls, fd, mn, pc, us, it, ln, ks, bl, sz, lf, nx, pv, sr, rt, pa, wy, oa, ov, bg) (nI s) (nI l) := by
  obtain ⟨x1, x2, x3, x4⟩ := X
  have s1 : s < 192 := hFs.1
  have so0 := ev_TI_sorted I (t := 0) (by omega)
  have room : (K 0).length + 1 ≤ 96 := ev_room so0 (fun h => hs ((x1 s).mp h)) (fun x hx => hF x ((x1 x).mp hx)) hFs
  refine And.intro (vp_in_nI s1 (by omega)) (fun g eg => ?_)
  rw [nI_clamp (by omega), ev_nbb (by omega)] at eg
  subst eg
  refine ev_insert (t := 0) (dp := dp) I (by omega) (by omega) (fun h => hs ((x1 s).mp h)) room (ev_01 (by omega) (by omega)) (fun X Y sp' dp' ks' bl' sz' lf' nx' pv' rt' pa' wy' e0 p0 I1 => ?_)
  refine ev_bySize s1 hl' ?_
  have K1 : (ev_u K 0 (X ++ s :: Y)) 1 = K 1 := ev_un (by omega)
  have K0 : (ev_u K 0 (X ++ s :: Y)) 0 = X ++ s :: Y := ev_us
  have lK0 : (X ++ s :: Y).length = (K 0).length + 1 := by rw [e0]; simp; omega
  have new1 : ev_ky s l ∉ K 1 := by
    intro h
    obtain ⟨z, hz, e⟩ := (x2 _).mp h
    obtain ⟨z1, z2, z3, z4⟩ := x4 z hz
    have := (ev_ky_inj s1 z1 hl' z3 e).1
    exact hs (by rw [this]; exact hz)
  refine ev_insert (t := 1) I1 (by omega) (ev_ky_lt s1 hl') (by rw [K1]; exact new1) (by rw [K1]; omega) (ev_01 (by rw [K0]; omega) (by rw [K1]; omega)) (fun X2 Y2 sp2 dp2 ks2 bl2 sz2 lf2 nx2 pv2 rt2 pa2 wy2 e1 p1 I2 => ?_)
  rw [K1] at e1
  refine H _ sp2 dp2 ks2 bl2 sz2 lf2 nx2 pv2 rt2 pa2 wy2 ?_ I2
  have k0 : (ev_u (ev_u K 0 (X ++ s :: Y)) 1 (X2 ++ ev_ky s l :: Y2)) 0 = X ++ s :: Y := by rw [ev_un (by omega), ev_us]
  have k1 : (ev_u (ev_u K 0 (X ++ s :: Y)) 1 (X2 ++ ev_ky s l :: Y2)) 1 = X2 ++ ev_ky s l :: Y2 := ev_us
  refine ⟨fun y => ?_, fun y => ?_, ?_, fun y hy => ?_⟩
  · rw [k0]
    show _ ↔ S y ∨ y = s
    rw [← x1 y, e0]
    simp only [List.mem_append, List.mem_cons]
    constructor
    · intro h
      rcases h with h | h | h
      · exact Or.inl (Or.inl h)
      · exact Or.inr h
      · exact Or.inl (Or.inr h)
    · intro h
      rcases h with (h | h) | h
      · exact Or.inl h
      · exact Or.inr (Or.inr h)
      · exact Or.inr (Or.inl h)
  · rw [k1]
    have m1 : y ∈ X2 ++ ev_ky s l :: Y2 ↔ y ∈ K 1 ∨ y = ev_ky s l := by
      rw [e1]
      simp only [List.mem_append, List.mem_cons]
      constructor
      · intro h
        rcases h with h | h | h
        · exact Or.inl (Or.inl h)
        · exact Or.inr h
        · exact Or.inl (Or.inr h)
      · intro h
        rcases h with (h | h) | h
        · exact Or.inl h
        · exact Or.inr (Or.inr h)
        · exact Or.inr (Or.inl h)
    rw [m1, x2 y]
    constructor
    · rintro (⟨z, hz, e⟩ | e)
      · exact ⟨z, Or.inl hz, by rw [ev_un (fun ez => hs (by rw [← ez]; exact hz))]; exact e⟩
      · exact ⟨s, Or.inr rfl, by rw [ev_us]; exact e⟩
    · rintro ⟨z, hz | hz, e⟩
      · rw [ev_un (fun ez => hs (by rw [← ez]; exact hz))] at e
        exact Or.inl ⟨z, hz, e⟩
      · rw [hz, ev_us] at e
        exact Or.inr e
  · rw [k0, k1]
    rw [e0, e1] at x3
    simp only [List.length_append, List.length_cons] at x3 ⊢
    omega
  · by_cases c : y = s
    · subst c
      rw [ev_us, pk_us]
      exact ⟨s1, hl, hl', rfl⟩
    · rw [ev_un c, pk_un c]
      rcases hy with hy | hy
      · exact x4 y hy
      · exact absurd hy c
end
end
section
/-! the walks of take and release -/
def ev_cn (F : Nat → Bool) : Nat → Nat
  | 0 => 0
  | n + 1 => ev_cn F n + (if F n = true then 1 else 0)
theorem ev_cn_le (F : Nat → Bool) : ∀ n, ev_cn F n ≤ n
  | 0 => Nat.le_refl _
  | n + 1 => by
      have := ev_cn_le F n
      show ev_cn F n + (if F n = true then 1 else 0) ≤ n + 1
      split <;> omega
theorem ev_cn_c {F F' : Nat → Bool} : ∀ {n}, (∀ x, x < n → F' x = F x) → ev_cn F' n = ev_cn F n
  | 0, _ => rfl
  | n + 1, h => by
      show ev_cn F' n + (if F' n = true then 1 else 0) = ev_cn F n + (if F n = true then 1 else 0)
      rw [ev_cn_c (fun x hx => h x (by omega)), h n (by omega)]
theorem ev_cn_t {F : Nat → Bool} {b : Nat} (h : F b = false) : ∀ {n}, b < n → ev_cn (ev_u F b true) n = ev_cn F n + 1
  | 0, hb => by omega
  | n + 1, hb => by
      show ev_cn (ev_u F b true) n + (if ev_u F b true n = true then 1 else 0) = ev_cn F n + (if F n = true then 1 else 0) + 1
      by_cases c : b = n
      · subst c
        rw [ev_us, if_pos rfl, h, ev_cn_c (F := F) (fun x hx => ev_un (by omega))]
        simp
      · rw [ev_un (fun e => c e.symm), ev_cn_t h (by omega)]
        omega
theorem ev_cn_f {F : Nat → Bool} {b n : Nat} (h : F b = true) (hb : b < n) : ev_cn (ev_u F b false) n + 1 = ev_cn F n := by
  have := ev_cn_t (F := ev_u F b false) (b := b) ev_us hb
  rw [ev_u_u, ev_u_id h] at this
  omega
theorem ev_nt {x : Bool} (h : ¬ x = true) : x = false := by simpa using h
def ev_fl (F : Nat → Bool) (b : Nat) : Nat → Nat → Bool
  | 0 => F
  | n + 1 => ev_u (ev_fl F b n) (b + n) true
theorem ev_fl_in {F : Nat → Bool} {b x : Nat} : ∀ {n}, b ≤ x → x < b + n → ev_fl F b n x = true
  | 0, h1, h2 => by omega
  | n + 1, h1, h2 => by
      show ev_u (ev_fl F b n) (b + n) true x = true
      by_cases c : x = b + n
      · rw [c, ev_us]
      · rw [ev_un c]; exact ev_fl_in h1 (by omega)
theorem ev_fl_out {F : Nat → Bool} {b x : Nat} : ∀ {n}, x < b ∨ b + n ≤ x → ev_fl F b n x = F x
  | 0, _ => rfl
  | n + 1, h => by
      show ev_u (ev_fl F b n) (b + n) true x = F x
      rw [ev_un (by omega)]; exact ev_fl_out (by omega)
theorem ev_fl_cn {F : Nat → Bool} {b : Nat} : ∀ {n}, (∀ j, j < n → F (b + j) = false) → b + n ≤ 192 → ev_cn (ev_fl F b n) 192 = ev_cn F 192 + n
  | 0, _, _ => rfl
  | n + 1, h, hb => by
      show ev_cn (ev_u (ev_fl F b n) (b + n) true) 192 = _
      rw [ev_cn_t (by rw [ev_fl_out (by omega)]; exact h n (by omega)) (by omega), ev_fl_cn (fun j hj => h j (by omega)) (by omega)]
      omega
/-- one start alone can lead up to a block of its group -/
theorem ev_one {F : Nat → Bool} {s x b : Nat} (hs : s % 64 = 0 ∨ F (s - 1) = false) (hx : x % 64 = 0 ∨ F (x - 1) = false) (hsb : s ≤ b) (hxb : x ≤ b) (gs : s / 64 = b / 64) (gx : x / 64 = b / 64) (rs : ∀ y, s ≤ y → y < b → F y = true) (rx : ∀ y, x ≤ y → y < b → F y = true) : s = x := by
  rcases Nat.lt_trichotomy s x with c | c | c
  · rcases hx with e | e
    · omega
    · rw [rs (x - 1) (by omega) (by omega)] at e; simp at e
  · exact c
  · rcases hs with e | e
    · omega
    · rw [rx (s - 1) (by omega) (by omega)] at e; simp at e
theorem ev_take_st {F : Nat → Bool} {b s : Nat} (hb : b < 192) (hs : ev_st F s) (hsb : s ≤ b) (g : s / 64 = b / 64) (r : ∀ x, s ≤ x → x ≤ b → F x = true) :
    b < s + ev_rl F s ∧
    (∀ x, ev_st (ev_u F b false) x ↔ ((ev_st F x ∧ x ≠ s) ∨ (x = s ∧ s < b)) ∨ (x = b + 1 ∧ b + 1 < s + ev_rl F s)) ∧
    (∀ x, ev_st F x → x ≠ s → ev_rl (ev_u F b false) x = ev_rl F x) ∧
    (s < b → ev_rl (ev_u F b false) s = b - s) ∧
    (b + 1 < s + ev_rl F s → ev_rl (ev_u F b false) (b + 1) = s + ev_rl F s - 1 - b) := by
  obtain ⟨n1, n2, n3⟩ := ev_rl_ok F s
  have hlt : b < s + ev_rl F s := by
    by_cases c : b < s + ev_rl F s
    · exact c
    · rcases n3 with e | e
      · omega
      · rw [r (s + ev_rl F s) (by omega) (by omega)] at e; simp at e
  have hfree : ∀ x, s ≤ x → x < s + ev_rl F s → F x = true := fun x h1 h2 => by
    have := n1 (x - s) (by omega)
    rw [show s + (x - s) = x from by omega] at this
    exact this
  refine ⟨hlt, fun x => ⟨fun ⟨x1, x2, x3⟩ => ?_, fun h => ?_⟩, fun x hx hxs => ?_, fun hlt2 => ?_, fun hlt2 => ?_⟩
  · have hxb : x ≠ b := fun e => by rw [e, ev_us] at x2; simp at x2
    rw [ev_un hxb] at x2
    by_cases c : x = b + 1
    · by_cases c2 : b + 1 < s + ev_rl F s
      · exact Or.inr ⟨c, c2⟩
      · left
        have e1 : s + ev_rl F s = b + 1 := by omega
        rcases n3 with e | e
        · -- a start of the next group: it is a start of F
          exact Or.inl ⟨⟨x1, x2, Or.inl (by omega)⟩, by omega⟩
        · rw [e1, ← c, x2] at e; simp at e
    · left
      have hst : ev_st F x := by
        refine ⟨x1, x2, ?_⟩
        rcases x3 with e | e
        · exact Or.inl e
        · by_cases c0 : x = 0
          · left; rw [c0]
          · rw [ev_un (by omega)] at e; exact Or.inr e
      by_cases c2 : x = s
      · exact Or.inr ⟨c2, by omega⟩
      · exact Or.inl ⟨hst, c2⟩
  · rcases h with (⟨⟨x1, x2, x3⟩, hxs⟩ | ⟨e, hlt2⟩) | ⟨e, hlt2⟩
    · have hxb : x ≠ b := by
        intro e
        subst e
        exact hxs (ev_one hs.2.2 x3 hsb (Nat.le_refl _) g rfl (fun y h1 h2 => r y h1 (by omega)) (fun y h1 h2 => by omega)).symm
      refine ⟨x1, by rw [ev_un hxb]; exact x2, ?_⟩
      rcases x3 with e | e
      · exact Or.inl e
      · right
        by_cases c : x - 1 = b
        · rw [c, ev_us]
        · rw [ev_un c]; exact e
    · subst e
      refine ⟨hs.1, by rw [ev_un (by omega)]; exact hs.2.1, ?_⟩
      rcases hs.2.2 with e | e
      · exact Or.inl e
      · right
        rw [ev_un (by omega)]; exact e
    · subst e
      refine ⟨by omega, by rw [ev_un (by omega)]; exact hfree (b + 1) (by omega) (by omega), Or.inr ?_⟩
      rw [Nat.add_sub_cancel, ev_us]
  · obtain ⟨m1, m2, m3⟩ := ev_rl_ok F x
    refine ev_rl_e ⟨fun j hj => ?_, m2, ?_⟩
    · rw [ev_un (fun e => ?_)]
      · exact m1 j hj
      · refine hxs (ev_one (b := b) hx.2.2 hs.2.2 (by omega) hsb (by omega) g (fun y h1 h2 => ?_) (fun y h1 h2 => r y h1 (by omega)))
        have := m1 (y - x) (by omega)
        rw [show x + (y - x) = y from by omega] at this
        exact this
    · rcases m3 with e | e
      · exact Or.inl e
      · right
        by_cases c : x + ev_rl F x = b
        · rw [c, ev_us]
        · rw [ev_un c]; exact e
  · refine ev_rl_e ⟨fun j hj => ?_, by omega, Or.inr ?_⟩
    · rw [ev_un (by omega)]; exact r (s + j) (by omega) (by omega)
    · rw [show s + (b - s) = b from by omega, ev_us]
  · refine ev_rl_e ⟨fun j hj => ?_, by omega, ?_⟩
    · rw [ev_un (by omega)]; exact hfree _ (by omega) (by omega)
    · rcases n3 with e | e
      · left; omega
      · right
        rw [show b + 1 + (s + ev_rl F s - 1 - b) = s + ev_rl F s from by omega, ev_un (by omega)]; exact e
/-- what release makes of the extents: f is where the new extent begins -/
theorem ev_rel_st {F F' : Nat → Bool} {b n f : Nat} (hb : b < 192) (hn : 1 ≤ n) (hg : b % 64 + n ≤ 64) (hF : ∀ j, j < n → F (b + j) = false) (hin : ∀ x, b ≤ x → x < b + n → F' x = true) (hout : ∀ x, x < b ∨ b + n ≤ x → F' x = F x)
    (f1 : f ≤ b) (f2 : f / 64 = b / 64) (f3 : ∀ x, f ≤ x → x < b → F x = true) (f4 : f % 64 = 0 ∨ F (f - 1) = false) :
    (∀ x, ev_st F' x ↔ (ev_st F x ∧ x ≠ f ∧ (x = b + n → (b + n) % 64 = 0)) ∨ x = f) ∧
    (∀ x, (ev_st F x ∧ x ≠ f ∧ (x = b + n → (b + n) % 64 = 0)) → ev_rl F' x = ev_rl F x) ∧
    ev_rl F' f = n + (b - f) + (if (b + n) % 64 = 0 then 0 else ev_rl F (b + n)) := by
  have hFx : ∀ x, b ≤ x → x < b + n → F x = false := fun x h1 h2 => by
    have := hF (x - b) (by omega)
    rw [show b + (x - b) = x from by omega] at this
    exact this
  have mono : ∀ x, F x = true → F' x = true := by
    intro x hx
    by_cases c : b ≤ x ∧ x < b + n
    · exact hin x c.1 c.2
    · rw [hout x (by omega)]; exact hx
  refine ⟨fun x => ⟨fun ⟨x1, x2, x3⟩ => ?_, fun h => ?_⟩, fun x ⟨hx, hxf, hxn⟩ => ?_, ?_⟩
  · by_cases c : b ≤ x ∧ x < b + n
    · right
      by_cases c2 : x = b
      · subst c2
        rcases x3 with e | e
        · omega
        · by_cases c3 : x = 0
          · omega
          · rw [hout (x - 1) (by omega)] at e
            by_cases c4 : f = x
            · exact c4.symm
            · rw [f3 (x - 1) (by omega) (by omega)] at e; simp at e
      · exfalso
        rcases x3 with e | e
        · omega
        · rw [hin (x - 1) (by omega) (by omega)] at e; simp at e
    · rw [hout x (by omega)] at x2
      by_cases c2 : x = f
      · exact Or.inr c2
      · left
        rcases x3 with e | e
        · exact ⟨⟨x1, x2, Or.inl e⟩, c2, fun e2 => by omega⟩
        · by_cases c3 : b ≤ x - 1 ∧ x - 1 < b + n
          · rw [hin (x - 1) c3.1 c3.2] at e; simp at e
          · rw [hout (x - 1) (by omega)] at e
            exact ⟨⟨x1, x2, Or.inr e⟩, c2, fun e2 => by omega⟩
  · rcases h with ⟨⟨x1, x2, x3⟩, hxf, hxn⟩ | e
    · refine ⟨x1, mono x x2, ?_⟩
      rcases x3 with e | e
      · exact Or.inl e
      · by_cases c : b ≤ x - 1 ∧ x - 1 < b + n
        · by_cases c2 : x < b + n
          · by_cases c3 : x = 0
            · left; omega
            · rw [hFx x (by omega) c2] at x2; simp at x2
          · left
            have := hxn (by omega)
            omega
        · right; rw [hout (x - 1) (by omega)]; exact e
    · subst e
      refine ⟨by omega, ?_, ?_⟩
      · by_cases c : x = b
        · rw [c]; exact hin b (Nat.le_refl _) (by omega)
        · exact mono x (f3 x (Nat.le_refl _) (by omega))
      · rcases f4 with e | e
        · exact Or.inl e
        · by_cases c : x = 0
          · left; omega
          · right; rw [hout (x - 1) (by omega)]; exact e
  · obtain ⟨m1, m2, m3⟩ := ev_rl_ok F x
    have hp := ev_rl_pos hx.2.1
    refine ev_rl_e ⟨fun j hj => mono _ (m1 j hj), m2, ?_⟩
    by_cases c64 : x % 64 + ev_rl F x = 64
    · exact Or.inl c64
    · right
      have e := m3.resolve_left c64
      by_cases c : b ≤ x + ev_rl F x ∧ x + ev_rl F x < b + n
      · exfalso
        have c2 : x + ev_rl F x = b := by
          by_cases c3 : b ≤ x + ev_rl F x - 1
          · have q := m1 (ev_rl F x - 1) (by omega)
            rw [hFx _ (by omega) (by omega)] at q; simp at q
          · omega
        refine hxf (ev_one (F := F) (b := b) hx.2.2 f4 (by omega) f1 (by omega) f2 (fun y h1 h2 => ?_) f3)
        have := m1 (y - x) (by omega)
        rw [show x + (y - x) = y from by omega] at this
        exact this
      · rw [hout _ (by omega)]; exact e
  · by_cases c : (b + n) % 64 = 0
    · rw [if_pos c]
      refine ev_rl_e ⟨fun j hj => ?_, by omega, Or.inl (by omega)⟩
      by_cases c2 : f + j < b
      · exact mono _ (f3 _ (by omega) c2)
      · exact hin _ (by omega) (by omega)
    · rw [if_neg c]
      obtain ⟨m1, m2, m3⟩ := ev_rl_ok F (b + n)
      refine ev_rl_e ⟨fun j hj => ?_, by omega, ?_⟩
      · by_cases c2 : f + j < b
        · exact mono _ (f3 _ (by omega) c2)
        · by_cases c3 : f + j < b + n
          · exact hin _ (by omega) c3
          · have q := m1 (f + j - (b + n)) (by omega)
            rw [show b + n + (f + j - (b + n)) = f + j from by omega] at q
            exact mono _ q
      · rcases m3 with e | e
        · left; omega
        · right
          rw [hout _ (by omega), show f + (n + (b - f) + ev_rl F (b + n)) = b + n + ev_rl F (b + n) from by omega]; exact e
/-- the extents as they stand -/
def ev_FE (F : Nat → Bool) (fb : Int32) (ln : Nat → Int32) (sp : Int32) (ks bl sz lf nx pv sr rt : Nat → Int32) : Prop :=
  ∃ K, ev_FX (ev_st F) (ev_rl F) K ln ∧ ev_TI K sp ks bl sz lf nx pv sr rt ∧ fb = nI (ev_cn F 192)
section
variable {fb sp dp kp lg ls fd mn : Int32} {pc us it ln ks bl sz lf nx pv sr rt pa wy oa ov bg : Nat → Int32}
theorem ev_FE_c {F F' : Nat → Bool} (h : ev_FE F fb ln sp ks bl sz lf nx pv sr rt) (e : ∀ x, F' x = F x) : ev_FE F' fb ln sp ks bl sz lf nx pv sr rt := by
  have : F' = F := funext e
  rw [this]; exact h
theorem ev_FX96 {F : Nat → Bool} {S : Nat → Prop} {len : Nat → Nat} {K : Nat → List Nat} (X : ev_FX S len K ln) (I : ev_TI K sp ks bl sz lf nx pv sr rt) (hF : ∀ x, S x → ev_st F x) : (K 0).length ≤ 96 :=
  ev_half_len (F := F) (ev_TI_sorted I (by omega)) (fun x hx => hF x ((X.1 x).mp hx))
theorem ev_take42 {post : SX → Prop} {F F' : Nat → Bool} {S : Nat → Prop} {len : Nat → Nat} {K : Nat → List Nat} {b s n : Nat} (X : ev_FX S len K ln) (I : ev_TI K sp ks bl sz lf nx pv sr rt) (hbn : b < s + n) (hn : n ≤ 64) (hb : b < 192) (hs : s ≤ b)
    (h1 : ∀ x, ev_st F' x ↔ S x ∨ (x = b + 1 ∧ b + 1 < s + n)) (h2 : ∀ x, S x → ev_rl F' x = len x) (h3 : b + 1 < s + n → ev_rl F' (b + 1) = s + n - 1 - b) (h4 : b + 1 < s + n → ¬ S (b + 1))
    (H : ∀ K' ln' sp' dp' ks' bl' sz' lf' nx' pv' rt' pa' wy', ev_FX (ev_st F') (ev_rl F') K' ln' → ev_TI K' sp' ks' bl' sz' lf' nx' pv' sr rt' → post (fb, sp', dp', kp, lg, ls, fd, mn, pc, us, it, ln', ks', bl', sz', lf', nx', pv', sr, rt', pa', wy', oa, ov, bg)) :
    wX_take_42 post (nI b) (nI s) (nI n) fb sp dp kp lg ls fd mn pc us it ln ks bl sz lf nx pv sr rt pa wy oa ov bg := by
  have e : nI s + nI n - 1 = nI (s + n - 1) := by
    rw [nI_add, show s + n = (s + n - 1) + 1 from by omega, nI_pred, Nat.add_sub_cancel]
  show (nI s + nI n - 1 ≤ nI b → _) ∧ (¬ nI s + nI n - 1 ≤ nI b → _)
  rw [e]
  by_cases c : s + n - 1 ≤ b
  · refine br_t (nI_le c (by omega)) (H K ln sp dp ks bl sz lf nx pv rt pa wy (ev_FX_ext X (fun x => ?_) h2) I)
    rw [h1 x]
    exact ⟨fun h => h.elim id (fun q => by omega), Or.inl⟩
  · refine br_f (nI_ge (by omega) (by omega)) ?_
    rw [nI_1, pk_sub (by omega)]
    have hlt : b + 1 < s + n := by omega
    have hst : ev_st F' (b + 1) := (h1 (b + 1)).mpr (Or.inr ⟨rfl, hlt⟩)
    refine ev_enter (F := F') X I (h4 hlt) (fun x hx => (h1 x).mpr (Or.inl hx)) hst (by omega) (by omega) (fun K' sp' dp' ks' bl' sz' lf' nx' pv' rt' pa' wy' X' I' => ?_)
    refine H K' _ sp' dp' ks' bl' sz' lf' nx' pv' rt' pa' wy' (ev_FX_ext X' (fun x => ?_) (fun x hx => ?_)) I'
    · show ev_st F' x ↔ S x ∨ x = b + 1
      rw [h1 x]
      exact ⟨fun h => h.imp id (fun q => q.1), fun h => h.imp id (fun q => ⟨q, hlt⟩)⟩
    · by_cases c2 : x = b + 1
      · rw [c2, ev_us]; exact h3 hlt
      · rw [ev_un c2]; exact h2 x (hx.resolve_right c2)
theorem ev_take {post : SX → Prop} {F : Nat → Bool} {b : Nat} (h : ev_FE F fb ln sp ks bl sz lf nx pv sr rt) (hb : b < 192) (hF : F b = true)
    (H : ∀ fb' ln' sp' dp' ks' bl' sz' lf' nx' pv' sr' rt' pa' wy', ev_FE (ev_u F b false) fb' ln' sp' ks' bl' sz' lf' nx' pv' sr' rt' → post (fb', sp', dp', kp, lg, ls, fd, mn, pc, us, it, ln', ks', bl', sz', lf', nx', pv', sr', rt', pa', wy', oa, ov, bg)) :
    wpX_take post (fb, sp, dp, kp, lg, ls, fd, mn, pc, us, it, ln, ks, bl, sz, lf, nx, pv, sr, rt, pa, wy, oa, ov, bg) (nI b) := by
  obtain ⟨K, X, I, hfb⟩ := h
  obtain ⟨s, s1, s2, s3, s4⟩ := ev_run hb hF
  obtain ⟨t1, t2, t3, t4, t5⟩ := ev_take_st hb s1 s2 s3 s4
  have K96 := ev_FX96 (F := F) X I (fun x hx => hx)
  refine ev_notAbove (t := 0) (dp := dp) I (by omega) K96 (by omega) (fun r dp' pa' wy' hr => ?_)
  have hr' : r = some s := by
    cases r with
    | none =>
      have := hr s ((X.1 s).mpr s1)
      omega
    | some y =>
      obtain ⟨y1, y2, y3⟩ := hr
      have hy := (X.1 y).mp y1
      have le := y3 s ((X.1 s).mpr s1) s2
      have : y = s := (ev_one (b := b) (F := F) hy.2.2 s1.2.2 y2 s2 (by omega) s3 (fun x h1 h2 => s4 x (by omega) (by omega)) (fun x h1 h2 => s4 x h1 (by omega)))
      rw [this]
  subst hr'
  obtain ⟨q1, q2, q3, q4⟩ := X.2.2.2 s s1
  refine And.intro (vp_in_nI q1 (by omega)) (fun x ex => ?_)
  have ex' : x = nI (ev_rl F s) := by rw [ex]; exact (congrArg ln (nI_clamp (by omega))).trans q4
  subst ex'
  refine ev_leave (s := s) X I s1 K96 (fun K1 sp1 dp1 ks1 bl1 sz1 nx1 pv1 sr1 rt1 pa1 wy1 X1 I1 => ?_)
  intro g eg
  have hcn := ev_cn_f (n := 192) hF hb
  have eg' : g = nI (ev_cn (ev_u F b false) 192) := by
    rw [eg, hfb, ← hcn, nI_pred]
  have fin : ∀ K' ln' sp' dp' ks' bl' sz' lf' nx' pv' sr' rt' pa' wy', ev_FX (ev_st (ev_u F b false)) (ev_rl (ev_u F b false)) K' ln' → ev_TI K' sp' ks' bl' sz' lf' nx' pv' sr' rt' → post (g, sp', dp', kp, lg, ls, fd, mn, pc, us, it, ln', ks', bl', sz', lf', nx', pv', sr', rt', pa', wy', oa, ov, bg) :=
    fun K' ln' sp' dp' ks' bl' sz' lf' nx' pv' sr' rt' pa' wy' X' I' => H g ln' sp' dp' ks' bl' sz' lf' nx' pv' sr' rt' pa' wy' ⟨K', X', I', eg'⟩
  show (nI b ≤ nI s → _) ∧ (¬ nI b ≤ nI s → _)
  by_cases c : b ≤ s
  · have e : s = b := by omega
    refine br_t (nI_le c (by omega)) ?_
    refine ev_take42 (F := F) (F' := ev_u F b false) X1 I1 t1 q3 hb s2 (fun x => ?_) (fun x hx => t3 x hx.1 hx.2) t5 (fun hlt hS => ?_) (fun K' ln' sp' dp' ks' bl' sz' lf' nx' pv' rt' pa' wy' X' I' => fin K' ln' sp' dp' ks' bl' sz' lf' nx' pv' sr1 rt' pa' wy' X' I')
    · rw [t2 x]
      exact ⟨fun h => h.imp (fun q => q.resolve_right (fun w => by omega)) id, fun h => h.imp Or.inl id⟩
    · have := hS.1.2.2
      rcases this with e2 | e2
      · have := (ev_rl_ok F s).2.1
        omega
      · rw [Nat.add_sub_cancel, hF] at e2; simp at e2
  · refine br_f (nI_ge (by omega) (by omega)) ?_
    show wpX_enter _ _ (nI s) (nI b - nI s)
    rw [pk_sub (by omega)]
    have sts : ev_st (ev_u F b false) s := (t2 s).mpr (Or.inl (Or.inr ⟨rfl, by omega⟩))
    refine ev_enter (F := ev_u F b false) X1 I1 (fun q => q.2 rfl) (fun x hx => (t2 x).mpr (Or.inl (Or.inl hx))) sts (by omega) (by omega) (fun K2 sp2 dp2 ks2 bl2 sz2 lf2 nx2 pv2 rt2 pa2 wy2 X2 I2 => ?_)
    refine ev_take42 (F := F) (F' := ev_u F b false) X2 I2 t1 q3 hb s2 (fun x => ?_) (fun x hx => ?_) t5 (fun hlt hS => ?_) (fun K' ln' sp' dp' ks' bl' sz' lf' nx' pv' rt' pa' wy' X' I' => fin K' ln' sp' dp' ks' bl' sz' lf' nx' pv' sr1 rt' pa' wy' X' I')
    · show _ ↔ ((ev_st F x ∧ x ≠ s) ∨ x = s) ∨ _
      rw [t2 x]
      exact ⟨fun h => h.imp (fun q => q.imp id (fun w => w.1)) id, fun h => h.imp (fun q => q.imp id (fun w => ⟨w, by omega⟩)) id⟩
    · by_cases c2 : x = s
      · rw [c2, ev_us]; exact t4 (by omega)
      · rw [ev_un c2]
        have hx' := hx.resolve_right c2
        exact t3 x hx'.1 hx'.2
    · rcases hS with hS | hS
      · have := hS.1.2.2
        rcases this with e2 | e2
        · have := (ev_rl_ok F s).2.1
          omega
        · rw [Nat.add_sub_cancel, hF] at e2; simp at e2
      · omega
end
end
section
/-! the walk of release -/
section
variable {fb sp dp kp lg ls fd mn : Int32} {pc us it ln ks bl sz lf nx pv sr rt pa wy oa ov bg : Nat → Int32}
theorem ev_r64 {a : Nat} (h : a < 2 ^ 31) : nI a - nI a / 64 * 64 = nI (a % 64) := pk_rem (d := 64) h (by omega) (by omega)
theorem ev_d64 {a : Nat} (h : a < 2 ^ 31) : nI a / 64 = nI (a / 64) := pk_div (d := 64) h (by omega) (by omega)
theorem ev_m1_ne {k : Nat} (h : k < 2 ^ 31) : ¬ (-1 : Int32) = nI k := by
  intro e
  have := nI_pos h
  rw [← e] at this
  exact this (by decide)
theorem ev_o_eq {r : Option Nat} {k : Nat} (hr : ∀ y, r = some y → y < 2 ^ 31) (hk : k < 2 ^ 31) : ev_o r = nI k ↔ r = some k := by
  cases r with
  | none => exact ⟨fun e => absurd e (ev_m1_ne hk), fun e => by simp at e⟩
  | some y =>
    have := hr y rfl
    constructor
    · intro e
      rw [(nI_eq this hk).mp e]
    · intro e
      have : y = k := by simpa using e
      rw [this]; rfl
theorem ev_rel137 {post : SX → Prop} {F F' : Nat → Bool} {S : Nat → Prop} {K : Nat → List Nat} {f n2 : Nat} (X : ev_FX S (ev_rl F) K ln) (I : ev_TI K sp ks bl sz lf nx pv sr rt) (h1 : ∀ x, ev_st F' x ↔ S x ∨ x = f) (h2 : ∀ x, S x → ev_rl F' x = ev_rl F x) (h3 : ¬ S f) (h4 : ev_rl F' f = n2) (hfb : fb = nI (ev_cn F' 192))
    (H : ∀ fb' ln' sp' dp' ks' bl' sz' lf' nx' pv' sr' rt' pa' wy', ev_FE F' fb' ln' sp' ks' bl' sz' lf' nx' pv' sr' rt' → post (fb', sp', dp', kp, lg, ls, fd, mn, pc, us, it, ln', ks', bl', sz', lf', nx', pv', sr', rt', pa', wy', oa, ov, bg)) :
    wX_release_137 post (nI f) (nI n2) fb sp dp kp lg ls fd mn pc us it ln ks bl sz lf nx pv sr rt pa wy oa ov bg := by
  have stf : ev_st F' f := (h1 f).mpr (Or.inr rfl)
  have l1 := ev_rl_pos stf.2.1
  have l2 := ev_rl_le F' f
  refine ev_enter (F := F') X I h3 (fun x hx => (h1 x).mpr (Or.inl hx)) stf (by omega) (by omega) (fun K' sp' dp' ks' bl' sz' lf' nx' pv' rt' pa' wy' X' I' => ?_)
  refine H fb _ sp' dp' ks' bl' sz' lf' nx' pv' sr rt' pa' wy' ⟨K', ev_FX_ext X' h1 (fun x hx => ?_), I', hfb⟩
  by_cases c : x = f
  · rw [c, ev_us]; exact h4
  · rw [ev_un c]; exact h2 x (hx.resolve_right c)
theorem ev_rel86 {post : SX → Prop} {F : Nat → Bool} {K : Nat → List Nat} {b n f : Nat} (X : ev_FX (fun x => ev_st F x ∧ x ≠ f) (ev_rl F) K ln) (I : ev_TI K sp ks bl sz lf nx pv sr rt)
    (hb : b < 192) (hn : 1 ≤ n) (hg : b % 64 + n ≤ 64) (hF : ∀ j, j < n → F (b + j) = false)
    (f1 : f ≤ b) (f2 : f / 64 = b / 64) (f3 : ∀ x, f ≤ x → x < b → F x = true) (f4 : f % 64 = 0 ∨ F (f - 1) = false) (hfb : fb = nI (ev_cn (ev_fl F b n) 192))
    (H : ∀ fb' ln' sp' dp' ks' bl' sz' lf' nx' pv' sr' rt' pa' wy', ev_FE (ev_fl F b n) fb' ln' sp' ks' bl' sz' lf' nx' pv' sr' rt' → post (fb', sp', dp', kp, lg, ls, fd, mn, pc, us, it, ln', ks', bl', sz', lf', nx', pv', sr', rt', pa', wy', oa, ov, bg)) :
    wX_release_86 post (nI b) (nI n) (nI f) (nI (n + (b - f))) fb sp dp kp lg ls fd mn pc us it ln ks bl sz lf nx pv sr rt pa wy oa ov bg := by
  obtain ⟨r1, r2, r3⟩ := ev_rel_st (F' := ev_fl F b n) hb hn hg hF (fun x h1 h2 => ev_fl_in h1 h2) (fun x h => ev_fl_out h) f1 f2 f3 f4
  intro y ey
  rw [nI_add] at ey
  subst ey
  refine ⟨by decide, ?_⟩
  rw [ev_r64 (by omega)]
  have K96 := ev_FX96 (F := F) X I (fun x hx => hx.1)
  by_cases c : (b + n) % 64 = 0
  · rw [if_pos c, Nat.add_zero] at r3
    refine br_t (by rw [c]; rfl) (br_f (ev_m1_ne (by omega)) ?_)
    refine ev_rel137 (F := F) (F' := ev_fl F b n) (S := fun x => ev_st F x ∧ x ≠ f) X I (fun x => ?_) (fun x hx => r2 x ⟨hx.1, hx.2, fun _ => c⟩) (fun q => q.2 rfl) r3 hfb H
    rw [r1 x]
    exact ⟨fun h => h.imp (fun q => ⟨q.1, q.2.1⟩) id, fun h => h.imp (fun q => ⟨q.1, q.2, fun _ => c⟩) id⟩
  · rw [if_neg c] at r3
    refine br_f (fun e => c ((nI_eq (b := 0) (by omega) (by omega)).mp e)) ?_
    refine ev_notBelow (t := 0) I (by omega) K96 (by omega) (fun r dp' pa' wy' hr => ?_)
    have hst : ∀ y, r = some y → y < 2 ^ 31 := by
      intro y ey
      subst ey
      have := ((X.1 y).mp hr.1).1.1
      omega
    by_cases c2 : F (b + n) = true
    · have stn : ev_st F (b + n) := by
        refine ⟨by omega, c2, Or.inr ?_⟩
        have := hF (n - 1) (by omega)
        rw [show b + (n - 1) = b + n - 1 from by omega] at this
        exact this
      have hin : b + n ∈ K 0 := (X.1 _).mpr ⟨stn, by omega⟩
      have hr' : r = some (b + n) := by
        cases r with
        | none => have := hr _ hin; omega
        | some y =>
          obtain ⟨y1, y2, y3⟩ := hr
          have := y3 _ hin (Nat.le_refl _)
          rw [show y = b + n from by omega]
      subst hr'
      refine br_t rfl ?_
      obtain ⟨w1, w2, w3, w4⟩ := X.2.2.2 (b + n) ⟨stn, by omega⟩
      refine ev_leave (s := b + n) X I ⟨stn, by omega⟩ K96 (fun K1 sp1 dp1 ks1 bl1 sz1 nx1 pv1 sr1 rt1 pa1 wy1 X1 I1 => ?_)
      refine And.intro (vp_in_nI w1 (by omega)) (fun g eg => ?_)
      have eg' : g = nI (n + (b - f) + ev_rl F (b + n)) := by
        rw [eg, show (ev_o (some (b + n))).toNatClampNeg = b + n from nI_clamp (by omega), w4, nI_add]
      subst eg'
      refine ev_rel137 (F := F) (F' := ev_fl F b n) (S := fun x => (ev_st F x ∧ x ≠ f) ∧ x ≠ b + n) X1 I1 (fun x => ?_) (fun x hx => r2 x ⟨hx.1.1, hx.1.2, fun e => absurd e hx.2⟩) (fun q => q.1.2 rfl) r3 hfb H
      rw [r1 x]
      exact ⟨fun h => h.imp (fun q => ⟨⟨q.1, q.2.1⟩, fun e => c (q.2.2 e)⟩) id, fun h => h.imp (fun q => ⟨q.1.1, q.1.2, fun e => absurd e q.2⟩) id⟩
    · have c3 := ev_nt c2
      have hr' : ¬ r = some (b + n) := by
        intro e
        subst e
        have := ((X.1 _).mp hr.1).1.2.1
        exact c2 this
      have rl0 : ev_rl F (b + n) = 0 := ev_rl_e ⟨fun j hj => absurd hj (Nat.not_lt_zero _), by omega, Or.inr c3⟩
      rw [rl0, Nat.add_zero] at r3
      refine br_f (fun e => hr' ((ev_o_eq hst (by omega)).mp e)) ?_
      refine ev_rel137 (F := F) (F' := ev_fl F b n) (S := fun x => ev_st F x ∧ x ≠ f) X I (fun x => ?_) (fun x hx => r2 x ⟨hx.1, hx.2, fun e => ?_⟩) (fun q => q.2 rfl) r3 hfb H
      · rw [r1 x]
        refine ⟨fun h => h.imp (fun q => ⟨q.1, q.2.1⟩) id, fun h => h.imp (fun q => ⟨q.1, q.2, fun e => ?_⟩) id⟩
        exact absurd (by rw [← e]; exact q.1.2.1) c2
      · exact absurd (by rw [← e]; exact hx.1.2.1) c2
theorem ev_release {post : SX → Prop} {F : Nat → Bool} {b n : Nat} (h : ev_FE F fb ln sp ks bl sz lf nx pv sr rt) (hb : b < 192) (hn : 1 ≤ n) (hg : b % 64 + n ≤ 64) (hF : ∀ j, j < n → F (b + j) = false)
    (H : ∀ fb' ln' sp' dp' ks' bl' sz' lf' nx' pv' sr' rt' pa' wy', ev_FE (ev_fl F b n) fb' ln' sp' ks' bl' sz' lf' nx' pv' sr' rt' → post (fb', sp', dp', kp, lg, ls, fd, mn, pc, us, it, ln', ks', bl', sz', lf', nx', pv', sr', rt', pa', wy', oa, ov, bg)) :
    wpX_release post (fb, sp, dp, kp, lg, ls, fd, mn, pc, us, it, ln, ks, bl, sz, lf, nx, pv, sr, rt, pa, wy, oa, ov, bg) (nI b) (nI n) := by
  obtain ⟨K, X, I, hfb⟩ := h
  have K96 := ev_FX96 (F := F) X I (fun x hx => hx)
  have hFb : F b = false := hF 0 (by omega)
  intro g eg
  have eg' : g = nI (ev_cn (ev_fl F b n) 192) := by rw [eg, hfb, nI_add, ev_fl_cn hF (by omega)]
  refine ⟨by decide, ?_⟩
  rw [ev_r64 (by omega)]
  -- nothing to the left
  have left0 : ∀ (dp : Int32) (pa wy : Nat → Int32), (b % 64 = 0 ∨ F (b - 1) = false) → wX_release_86 post (nI b) (nI n) (nI b) (nI n) g sp dp kp lg ls fd mn pc us it ln ks bl sz lf nx pv sr rt pa wy oa ov bg := by
    intro dp pa wy hl
    have X' : ev_FX (fun x => ev_st F x ∧ x ≠ b) (ev_rl F) K ln := ev_FX_ext X (fun x => ⟨fun q => q.1, fun q => ⟨q, fun e => by rw [e] at q; have := q.2.1; rw [hFb] at this; simp at this⟩⟩) (fun _ _ => rfl)
    have := ev_rel86 (post := post) (dp := dp) (pa := pa) (wy := wy) (kp := kp) (lg := lg) (ls := ls) (fd := fd) (mn := mn) (pc := pc) (us := us) (it := it) (oa := oa) (ov := ov) (bg := bg) (f := b) (n := n) X' I hb hn hg hF (Nat.le_refl _) rfl (fun x h1 h2 => by omega) hl eg' H
    rw [Nat.sub_self, Nat.add_zero] at this
    exact this
  by_cases c : b % 64 = 0
  · exact br_t (by rw [c]; rfl) (br_t (show (-1 : Int32) < 0 by decide) (left0 dp pa wy (Or.inl c)))
  · refine br_f (fun e => c ((nI_eq (b := 0) (by omega) (by omega)).mp e)) ?_
    refine ev_notAbove (t := 0) I (by omega) K96 (by omega) (fun r dp' pa' wy' hr => ?_)
    -- a free block to the left has its start among the keys
    have hrun : F (b - 1) = true → ∃ s, r = some s ∧ s ≤ b - 1 ∧ s / 64 = b / 64 ∧ ev_rl F s = b - s := by
      intro hf
      obtain ⟨s, s1, s2, s3, s4⟩ := ev_run (b := b - 1) (by omega) hf
      have hrl : ev_rl F s = b - s := by
        refine ev_rl_e ⟨fun j hj => s4 _ (by omega) (by omega), by omega, Or.inr ?_⟩
        rw [show s + (b - s) = b from by omega]; exact hFb
      refine ⟨s, ?_, s2, by omega, hrl⟩
      cases r with
      | none => have := hr s ((X.1 s).mpr s1); omega
      | some y =>
        obtain ⟨y1, y2, y3⟩ := hr
        have hy := (X.1 y).mp y1
        have le := y3 s ((X.1 s).mpr s1) (by omega)
        have hyb : y ≠ b := fun e => by
          have := hy.2.1
          rw [e, hFb] at this; simp at this
        have : y = s := ev_one (b := b - 1) (F := F) hy.2.2 s1.2.2 (by omega) s2 (by omega) s3 (fun x h1 h2 => s4 x (by omega) (by omega)) (fun x h1 h2 => s4 x h1 (by omega))
        rw [this]
    cases r with
    | none =>
      refine br_t (show (-1 : Int32) < 0 by decide) (left0 _ _ _ (Or.inr (ev_nt (fun hf => ?_))))
      obtain ⟨s, q, _⟩ := hrun hf
      simp at q
    | some y =>
      obtain ⟨y1, y2, y3⟩ := hr
      have hy := (X.1 y).mp y1
      obtain ⟨w1, w2, w3, w4⟩ := X.2.2.2 y hy
      refine br_f (show ¬ nI y < 0 from nI_pos (by omega)) ⟨by decide, by decide, ?_⟩
      show (nI y / 64 = nI b / 64 → _) ∧ (¬ nI y / 64 = nI b / 64 → _)
      rw [ev_d64 (by omega), ev_d64 (by omega)]
      by_cases c2 : y / 64 = b / 64
      · refine br_t (by rw [c2]) ⟨vp_in_nI w1 (by omega), ?_⟩
        rw [show (ev_o (some y)).toNatClampNeg = y from nI_clamp (by omega), w4]
        show (nI y + nI (ev_rl F y) = nI b → _) ∧ (¬ nI y + nI (ev_rl F y) = nI b → _)
        rw [nI_add]
        by_cases c3 : y + ev_rl F y = b
        · refine br_t (by rw [c3]) ?_
          refine ev_leave (s := y) X I hy K96 (fun K1 sp1 dp1 ks1 bl1 sz1 nx1 pv1 sr1 rt1 pa1 wy1 X1 I1 => ?_)
          refine And.intro (vp_in_nI w1 (by omega)) (fun v ev => ?_)
          have ev' : v = nI (n + (b - y)) := by
            rw [ev, w4, nI_add, show ev_rl F y = b - y from by omega]
          subst ev'
          refine ev_rel86 (f := y) X1 I1 hb hn hg hF (by omega) c2 (fun x h1 h2 => ?_) hy.2.2 eg' H
          have := (ev_rl_ok F y).1 (x - y) (by omega)
          rw [show y + (x - y) = x from by omega] at this
          exact this
        · refine br_f (fun e => c3 ((nI_eq (by omega) (by omega)).mp e)) (left0 _ _ _ (Or.inr (ev_nt (fun hf => ?_))))
          obtain ⟨s, q1, q2, q3, q4⟩ := hrun hf
          have : y = s := by simpa using q1
          subst this
          omega
      · refine br_f (fun e => c2 ((nI_eq (by omega) (by omega)).mp e)) (left0 _ _ _ (Or.inr (ev_nt (fun hf => ?_))))
        obtain ⟨s, q1, q2, q3, q4⟩ := hrun hf
        have : y = s := by simpa using q1
        subst this
        exact c2 q3
end
end
section
/-! the table of pieces: how many pieces stand at a block; the reference's count -/
def ev_cu (pc : Nat → Int32) (b : Nat) : Nat → Nat
  | 0 => 0
  | n + 1 => ev_cu pc b n + (if pc n = nI b then 1 else 0)
/-- a table in order: holes or blocks; a block only at one place mod 64 -/
def ev_gd (pc : Nat → Int32) : Prop :=
  (∀ k, k < 512 → ∃ o : Option Nat, pc k = ev_o o ∧ ∀ b, o = some b → b < 192) ∧
  (∀ k k' b, k < 512 → k' < 512 → b < 192 → pc k = nI b → pc k' = nI b → k % 64 = k' % 64) ∧ (∀ k, 512 ≤ k → pc k = 0)
def ev_Fo (pc : Nat → Int32) (b : Nat) : Bool := decide (ev_cu pc b 512 = 0)
theorem ev_Fo_t {pc : Nat → Int32} {b : Nat} : ev_Fo pc b = true ↔ ev_cu pc b 512 = 0 := by unfold ev_Fo; exact decide_eq_true_iff
theorem ev_Fo_f {pc : Nat → Int32} {b : Nat} : ev_Fo pc b = false ↔ ¬ ev_cu pc b 512 = 0 := by unfold ev_Fo; exact decide_eq_false_iff_not
theorem ev_cu0 {pc : Nat → Int32} {b : Nat} : ∀ {n}, ev_cu pc b n = 0 ↔ ∀ k, k < n → ¬ pc k = nI b
  | 0 => ⟨fun _ k hk => absurd hk (Nat.not_lt_zero _), fun _ => rfl⟩
  | n + 1 => by
      show ev_cu pc b n + (if pc n = nI b then 1 else 0) = 0 ↔ _
      constructor
      · intro h k hk
        by_cases c : k = n
        · subst c
          intro e
          rw [if_pos e] at h; omega
        · exact (ev_cu0 (n := n)).mp (by omega) k (by omega)
      · intro h
        rw [if_neg (h n (by omega)), ev_cu0.mpr (fun k hk => h k (by omega))]
theorem ev_cu_r {pc : Nat → Int32} {b r : Nat} (hr : r < 64) (h : ∀ k, k < 512 → pc k = nI b → k % 64 = r) : ∀ n, n ≤ 512 → ev_cu pc b n ≤ (n + 63 - r) / 64
  | 0, _ => Nat.zero_le _
  | n + 1, hn => by
      have ih := ev_cu_r hr h n (by omega)
      show ev_cu pc b n + (if pc n = nI b then 1 else 0) ≤ _
      by_cases c : pc n = nI b
      · have := h n (by omega) c
        rw [if_pos c]; omega
      · rw [if_neg c]; omega
theorem ev_cu8 {pc : Nat → Int32} {b : Nat} (h : ev_gd pc) (hb : b < 192) : ev_cu pc b 512 ≤ 8 := by
  by_cases c : ev_cu pc b 512 = 0
  · omega
  · have : ∃ k, k < 512 ∧ pc k = nI b := by
      refine Classical.byContradiction (fun q => c (ev_cu0.mpr (fun k hk e => q ⟨k, hk, e⟩)))
    obtain ⟨k, hk, e⟩ := this
    have := ev_cu_r (r := k % 64) (Nat.mod_lt _ (by omega)) (fun k' hk' e' => h.2.1 k' k b hk' hk hb e' e) 512 (Nat.le_refl _)
    omega
theorem ev_cu_pos {pc : Nat → Int32} {b k : Nat} (hk : k < 512) (e : pc k = nI b) : 1 ≤ ev_cu pc b 512 := by
  by_cases c : ev_cu pc b 512 = 0
  · exact absurd e (ev_cu0.mp c k hk)
  · omega
theorem ev_cu_c {pc pc' : Nat → Int32} {b : Nat} : ∀ {n}, (∀ k, k < n → (pc' k = nI b ↔ pc k = nI b)) → ev_cu pc' b n = ev_cu pc b n
  | 0, _ => rfl
  | n + 1, h => by
      show ev_cu pc' b n + (if pc' n = nI b then 1 else 0) = ev_cu pc b n + (if pc n = nI b then 1 else 0)
      rw [ev_cu_c (fun k hk => h k (by omega))]
      by_cases c : pc n = nI b
      · rw [if_pos c, if_pos ((h n (by omega)).mpr c)]
      · rw [if_neg c, if_neg (fun e => c ((h n (by omega)).mp e))]
theorem ev_cu_u {pc : Nat → Int32} {b k : Nat} {v : Int32} : ∀ {n}, k < n → ev_cu (upd pc k v) b n + (if pc k = nI b then 1 else 0) = ev_cu pc b n + (if v = nI b then 1 else 0)
  | 0, h => by omega
  | n + 1, h => by
      show ev_cu (upd pc k v) b n + (if upd pc k v n = nI b then 1 else 0) + _ = ev_cu pc b n + (if pc n = nI b then 1 else 0) + _
      by_cases c : k = n
      · subst c
        rw [pk_us, ev_cu_c (pc := pc) (fun j hj => by rw [pk_un (by omega)])]
        omega
      · have := ev_cu_u (pc := pc) (b := b) (v := v) (k := k) (n := n) (by omega)
        rw [pk_un (fun e => c e.symm)]
        omega
theorem ev_cu_le (pc : Nat → Int32) (b : Nat) : ∀ n, ev_cu pc b n ≤ n
  | 0 => Nat.le_refl _
  | n + 1 => by
      have := ev_cu_le pc b n
      show ev_cu pc b n + (if pc n = nI b then 1 else 0) ≤ n + 1
      split <;> omega
section
variable {yk yf yl : Int32} {ya yi ym yz : Nat → Int32}
theorem ev_count24 {post : SY → Prop} (g : ev_gd ya) (H : ∀ ym', (∀ b, b < 192 → ym' b = nI (ev_cu ya b 512)) → post (yk, yf, yl, ya, yi, ym', yz)) :
    ∀ (d i : Nat) (ym : Nat → Int32), i + d = 512 → (∀ b, b < 192 → ym b = nI (ev_cu ya b i)) → wY_count_24 post yk yf yl (d + 1) (nI i) ya yi ym yz := by
  intro d
  induction d with
  | zero =>
    intro i ym hi h
    have : i = 512 := by omega
    subst this
    exact br_t (nI_le (a := 512) (Nat.le_refl _) (by omega)) (H ym h)
  | succ d ih =>
    intro i ym hi h
    refine br_f (nI_ge (b := 512) (by omega) (by omega)) ⟨vp_in_nI (by omega) (by omega), ?_⟩
    rw [nI_clamp (by omega)]
    obtain ⟨o, ho, hob⟩ := g.1 i (by omega)
    rw [ho]
    cases o with
    | none =>
      refine br_t (show (-1 : Int32) < 0 by decide) (fun y ey => ?_)
      rw [nI_1] at ey
      subst ey
      refine ih (i + 1) ym (by omega) (fun b hb => ?_)
      rw [h b hb]
      show nI (ev_cu ya b i) = nI (ev_cu ya b i + (if ya i = nI b then 1 else 0))
      rw [if_neg (by rw [ho]; exact ev_m1_ne (by omega))]; rfl
    | some c =>
      have hc := hob c rfl
      have ic : vp_in (nI c) 192 := vp_in_nI hc (by omega)
      refine br_f (show ¬ nI c < 0 from nI_pos (by omega)) ⟨vp_in_nI (by omega) (by omega), ic, ic, fun m em y ey => ?_⟩
      rw [nI_1] at ey
      subst ey
      rw [show (ev_o (some c)).toNatClampNeg = c from nI_clamp (by omega), h c hc, nI_1] at em
      refine ih (i + 1) m (by omega) (fun b hb => ?_)
      show m b = nI (ev_cu ya b i + (if ya i = nI b then 1 else 0))
      rw [show ya i = nI c from ho]
      by_cases e : b = c
      · subst e
        rw [em, pk_us, if_pos rfl]
      · rw [em, pk_un e, h b hb, if_neg (fun z => e ((nI_eq (by omega) (by omega)).mp z).symm)]; rfl
theorem ev_count2 {post : SY → Prop} (g : ev_gd ya) (H : ∀ ym', (∀ b, b < 192 → ym' b = nI (ev_cu ya b 512)) → post (yk, yf, yl, ya, yi, ym', yz)) :
    ∀ (d i : Nat) (ym : Nat → Int32), i + d = 192 → (∀ b, b < i → ym b = 0) → wY_count_2 post yk yf yl (d + 1) (nI i) ya yi ym yz := by
  intro d
  induction d with
  | zero =>
    intro i ym hi h
    have : i = 192 := by omega
    subst this
    refine br_t (nI_le (a := 192) (Nat.le_refl _) (by omega)) (Exists.intro 513 ?_)
    exact ev_count24 g H 512 0 ym (by omega) (fun b hb => h b hb)
  | succ d ih =>
    intro i ym hi h
    refine br_f (nI_ge (b := 192) (by omega) (by omega)) ⟨vp_in_nI (by omega) (by omega), fun m em y ey => ?_⟩
    rw [nI_1] at ey
    subst ey
    rw [nI_clamp (by omega)] at em
    refine ih (i + 1) m (by omega) (fun b hb => ?_)
    by_cases e : b = i
    · rw [em, e, pk_us]
    · rw [em, pk_un e]; exact h b (by omega)
theorem ev_count {post : SY → Prop} (g : ev_gd ya) (H : ∀ ym', (∀ b, b < 192 → ym' b = nI (ev_cu ya b 512)) → post (yk, yf, yl, ya, yi, ym', yz)) : wpY_count post (yk, yf, yl, ya, yi, ym, yz) :=
  Exists.intro 193 (ev_count2 g H 192 0 ym (by omega) (fun b hb => absurd hb (Nat.not_lt_zero _)))
theorem ev_freeBlocks8 {post : Int32 → SY → Prop} (h : ∀ b, b < 192 → ym b = nI (ev_cu ya b 512)) (H : post (nI (ev_cn (ev_Fo ya) 192)) (yk, yf, yl, ya, yi, ym, yz)) :
    ∀ (d i : Nat), i + d = 192 → wY_freeBlocks_8 post yk yf yl ya yi ym yz (d + 1) (nI (ev_cn (ev_Fo ya) i)) (nI i) := by
  intro d
  induction d with
  | zero =>
    intro i hi
    have : i = 192 := by omega
    subst this
    exact br_t (nI_le (a := 192) (Nat.le_refl _) (by omega)) H
  | succ d ih =>
    intro i hi
    refine br_f (nI_ge (b := 192) (by omega) (by omega)) ⟨vp_in_nI (by omega) (by omega), ?_⟩
    rw [nI_clamp (by omega), h i (by omega)]
    have hl := ev_cu_le ya i 512
    have st : ev_cn (ev_Fo ya) (i + 1) = ev_cn (ev_Fo ya) i + (if ev_Fo ya i = true then 1 else 0) := rfl
    by_cases c : ev_cu ya i 512 = 0
    · rw [if_pos (ev_Fo_t.mpr c)] at st
      refine br_t (by rw [c]; rfl) (fun x ex y ey => ?_)
      rw [nI_1] at ex ey
      subst ey
      rw [ex, ← st]
      exact ih (i + 1) (by omega)
    · rw [if_neg (fun e => c (ev_Fo_t.mp e))] at st
      refine br_f (fun e => c ((nI_eq (b := 0) (by omega) (by omega)).mp e)) (fun y ey => ?_)
      rw [nI_1] at ey
      subst ey
      have := ih (i + 1) (by omega)
      rw [st] at this
      exact this
theorem ev_freeBlocks {post : Int32 → SY → Prop} (g : ev_gd ya) (H : ∀ ym', (∀ b, b < 192 → ym' b = nI (ev_cu ya b 512)) → post (nI (ev_cn (ev_Fo ya) 192)) (yk, yf, yl, ya, yi, ym', yz)) : wpY_freeBlocks post (yk, yf, yl, ya, yi, ym, yz) := by
  refine ev_count g (fun ym' h => Exists.intro 193 ?_)
  exact ev_freeBlocks8 (ym := ym') h (H ym' h) 192 0 (by omega)
end
end
section
/-! the walks of put, log, fill -/
theorem ev_rl_c {F F' : Nat → Bool} {s : Nat} (h : ∀ x, x < 192 → F' x = F x) (hs : s < 192) : ev_rl F' s = ev_rl F s := by
  obtain ⟨m1, m2, m3⟩ := ev_rl_ok F s
  refine ev_rl_e ⟨fun j hj => ?_, m2, ?_⟩
  · rw [h _ (by omega)]; exact m1 j hj
  · by_cases c : s % 64 + ev_rl F s = 64
    · exact Or.inl c
    · right
      rw [h _ (by omega)]; exact m3.resolve_left c
theorem ev_st_c {F F' : Nat → Bool} (h : ∀ x, x < 192 → F' x = F x) (s : Nat) : ev_st F' s ↔ ev_st F s := by
  unfold ev_st
  constructor
  · rintro ⟨a, b, c⟩
    rw [h s a] at b
    rw [h (s - 1) (by omega)] at c
    exact ⟨a, b, c⟩
  · rintro ⟨a, b, c⟩
    rw [h s a, h (s - 1) (by omega)]
    exact ⟨a, b, c⟩
section
variable {fb sp dp kp lg ls fd mn : Int32} {pc us it ln ks bl sz lf nx pv sr rt pa wy oa ov bg : Nat → Int32}
theorem ev_FE_x {F F' : Nat → Bool} (h : ev_FE F fb ln sp ks bl sz lf nx pv sr rt) (e : ∀ x, x < 192 → F' x = F x) : ev_FE F' fb ln sp ks bl sz lf nx pv sr rt := by
  obtain ⟨K, X, I, hfb⟩ := h
  exact ⟨K, ev_FX_ext X (fun s => ev_st_c e s) (fun s hs => ev_rl_c e hs.1), I, by rw [hfb, ev_cn_c e]⟩
/-- the table, the uses, the extents -/
def ev_PX (pc : Nat → Int32) (fb : Int32) (us ln : Nat → Int32) (sp : Int32) (ks bl sz lf nx pv sr rt : Nat → Int32) : Prop :=
  ev_gd pc ∧ (∀ b, b < 192 → us b = nI (ev_cu pc b 512)) ∧ ev_FE (ev_Fo pc) fb ln sp ks bl sz lf nx pv sr rt
theorem ev_o_some {o : Option Nat} {x : Nat} (h : ∀ b, o = some b → b < 192) (hx : x < 192) : ev_o o = nI x ↔ o = some x :=
  ev_o_eq (fun y hy => by have := h y hy; omega) (by omega)
theorem ev_Fo_iff {pc : Nat → Int32} {F1 : Nat → Bool} {x : Nat} (h : F1 x = true ↔ ev_cu pc x 512 = 0) : ev_Fo pc x = F1 x := by
  cases hF : F1 x with
  | true => exact ev_Fo_t.mpr (h.mp hF)
  | false => exact ev_Fo_f.mpr (fun e => by rw [h.mpr e] at hF; simp at hF)
theorem ev_put50 {post : SX → Prop} {pc' : Nat → Int32} {F1 : Nat → Bool} {oo : Option Nat} (g : ev_gd pc') (hoo : ∀ b, oo = some b → b < 192) (hu : ∀ b, b < 192 → us b = nI (ev_cu pc' b 512 + (if oo = some b then 1 else 0)))
    (hF : ∀ b, b < 192 → (F1 b = true ↔ ev_cu pc' b 512 + (if oo = some b then 1 else 0) = 0)) (E : ev_FE F1 fb ln sp ks bl sz lf nx pv sr rt)
    (H : ∀ fb' us' ln' sp' dp' ks' bl' sz' lf' nx' pv' sr' rt' pa' wy', ev_PX pc' fb' us' ln' sp' ks' bl' sz' lf' nx' pv' sr' rt' → post (fb', sp', dp', kp, lg, ls, fd, mn, pc, us', it, ln', ks', bl', sz', lf', nx', pv', sr', rt', pa', wy', oa, ov, bg)) :
    wX_put_50 post (ev_o oo) fb sp dp kp lg ls fd mn pc us it ln ks bl sz lf nx pv sr rt pa wy oa ov bg := by
  cases oo with
  | none =>
    refine br_t (show (-1 : Int32) < 0 by decide) (H fb us ln sp dp ks bl sz lf nx pv sr rt pa wy ⟨g, fun b hb => ?_, ev_FE_x E (fun x hx => ?_)⟩)
    · rw [hu b hb, if_neg (by simp)]; rfl
    · refine ev_Fo_iff ?_
      have := hF x hx
      rw [if_neg (by simp), Nat.add_zero] at this
      exact this
  | some o =>
    have ho := hoo o rfl
    have io : vp_in (nI o) 192 := vp_in_nI ho (by omega)
    have c8 := ev_cu8 g ho
    refine br_f (show ¬ nI o < 0 from nI_pos (by omega)) ⟨io, io, fun u eu => ⟨io, ?_⟩⟩
    have co : (ev_o (some o)).toNatClampNeg = o := nI_clamp (by omega)
    rw [co, hu o ho, if_pos rfl, nI_pred, ev_nbb (by omega)] at eu
    rw [co]
    have huo : u o = nI (ev_cu pc' o 512) := by rw [eu, pk_us]
    rw [huo]
    have hu' : ∀ b, b < 192 → u b = nI (ev_cu pc' b 512) := by
      intro b hb
      by_cases e : b = o
      · rw [e]; exact huo
      · rw [eu, pk_un e, hu b hb, if_neg (fun q => e (by simpa using q.symm))]; rfl
    have hne : ∀ b, b < 192 → b ≠ o → (F1 b = true ↔ ev_cu pc' b 512 = 0) := by
      intro b hb e
      have := hF b hb
      rw [if_neg (fun q => e (by simpa using q.symm)), Nat.add_zero] at this
      exact this
    have hFo : F1 o = false := by
      refine ev_nt (fun q => ?_)
      have := (hF o ho).mp q
      rw [if_pos rfl] at this
      omega
    by_cases c : ev_cu pc' o 512 = 0
    · refine br_t (by rw [c]; rfl) ?_
      refine ev_release (n := 1) E ho (by omega) (by omega) (fun j hj => by rw [show o + j = o from by omega]; exact hFo) (fun fb' ln' sp' dp' ks' bl' sz' lf' nx' pv' sr' rt' pa' wy' E' => ?_)
      refine H fb' u ln' sp' dp' ks' bl' sz' lf' nx' pv' sr' rt' pa' wy' ⟨g, hu', ev_FE_x E' (fun x hx => ?_)⟩
      by_cases e : x = o
      · rw [e, ev_fl_in (Nat.le_refl _) (by omega)]; exact ev_Fo_t.mpr c
      · rw [ev_fl_out (by omega)]; exact ev_Fo_iff (hne x hx e)
    · refine br_f (fun e => c ((nI_eq (b := 0) (by omega) (by omega)).mp e)) (H fb u ln sp dp ks bl sz lf nx pv sr rt pa wy ⟨g, hu', ev_FE_x E (fun x hx => ?_)⟩)
      by_cases e : x = o
      · rw [e, hFo]; exact ev_Fo_f.mpr c
      · exact ev_Fo_iff (hne x hx e)
theorem ev_put {post : SX → Prop} {k : Nat} {o oo : Option Nat} {Q : Int32 → (Nat → Int32) → (Nat → Int32) → Prop} (P : ev_PX pc fb us ln sp ks bl sz lf nx pv sr rt) (hk : k < 512) (hoo : pc k = ev_o oo) (hob : ∀ b, oo = some b → b < 192) (hb : ∀ b, o = some b → b < 192) (g' : ev_gd (upd pc k (ev_o o)))
    (HL : ∀ post2 : SX → Prop, (∀ lg' oa' ov', Q lg' oa' ov' → post2 (fb, sp, dp, kp, lg', ls, fd, mn, pc, us, it, ln, ks, bl, sz, lf, nx, pv, sr, rt, pa, wy, oa', ov', bg)) → wpX_log post2 (fb, sp, dp, kp, lg, ls, fd, mn, pc, us, it, ln, ks, bl, sz, lf, nx, pv, sr, rt, pa, wy, oa, ov, bg) (nI k) (ev_o oo))
    (H : ∀ lg' oa' ov' fb' us' ln' sp' dp' ks' bl' sz' lf' nx' pv' sr' rt' pa' wy', Q lg' oa' ov' → ev_PX (upd pc k (ev_o o)) fb' us' ln' sp' ks' bl' sz' lf' nx' pv' sr' rt' → post (fb', sp', dp', kp, lg', ls, fd, mn, upd pc k (ev_o o), us', it, ln', ks', bl', sz', lf', nx', pv', sr', rt', pa', wy', oa', ov', bg)) :
    wpX_put post (fb, sp, dp, kp, lg, ls, fd, mn, pc, us, it, ln, ks, bl, sz, lf, nx, pv, sr, rt, pa, wy, oa, ov, bg) (nI k) (ev_o o) := by
  obtain ⟨g, hu, E⟩ := P
  refine And.intro (vp_in_nI hk (by omega)) (fun x ex => ?_)
  rw [nI_clamp (by omega), hoo] at ex
  subst ex
  refine HL _ (fun lg' oa' ov' hQ => ?_)
  refine And.intro (vp_in_nI hk (by omega)) (fun p ep => ?_)
  have cuu : ∀ x, x < 192 → ev_cu (upd pc k (ev_o o)) x 512 + (if oo = some x then 1 else 0) = ev_cu pc x 512 + (if o = some x then 1 else 0) := by
    intro x hx
    have := ev_cu_u (pc := pc) (b := x) (v := ev_o o) (n := 512) hk
    rw [hoo] at this
    by_cases c1 : oo = some x
    · rw [if_pos c1]
      rw [if_pos ((ev_o_some hob hx).mpr c1)] at this
      by_cases c2 : o = some x
      · rw [if_pos c2]
        rw [if_pos ((ev_o_some hb hx).mpr c2)] at this
        exact this
      · rw [if_neg c2]
        rw [if_neg (fun e => c2 ((ev_o_some hb hx).mp e))] at this
        exact this
    · rw [if_neg c1]
      rw [if_neg (fun e => c1 ((ev_o_some hob hx).mp e))] at this
      by_cases c2 : o = some x
      · rw [if_pos c2]
        rw [if_pos ((ev_o_some hb hx).mpr c2)] at this
        exact this
      · rw [if_neg c2]
        rw [if_neg (fun e => c2 ((ev_o_some hb hx).mp e))] at this
        exact this
  cases o with
  | none =>
    have ep' : p = upd pc k (ev_o none) := by
      rw [ep, nI_clamp (by omega)]
      exact congrArg (upd pc k) (by rw [show (ev_o none).toInt16.toInt32 = -1 from by decide]; exact ev_nsm)
    subst ep'
    refine br_t (show (-1 : Int32) < 0 by decide) ?_
    refine ev_put50 (F1 := ev_Fo pc) g' hob (fun b hb' => ?_) (fun b hb' => ?_) E (fun fb' us' ln' sp' dp' ks' bl' sz' lf' nx' pv' sr' rt' pa' wy' P' => H lg' oa' ov' fb' us' ln' sp' dp' ks' bl' sz' lf' nx' pv' sr' rt' pa' wy' hQ P')
    · rw [hu b hb', cuu b hb', if_neg (by simp)]; rfl
    · rw [cuu b hb', if_neg (by simp), Nat.add_zero]; exact ev_Fo_t
  | some b =>
    have b2 := hb b rfl
    have ep' : p = upd pc k (ev_o (some b)) := by
      rw [ep, nI_clamp (by omega)]
      exact congrArg (upd pc k) (ev_nss (by omega))
    subst ep'
    have ib : vp_in (nI b) 192 := vp_in_nI b2 (by omega)
    have cb : (ev_o (some b)).toNatClampNeg = b := nI_clamp (by omega)
    have c8 := ev_cu8 g b2
    refine br_f (show ¬ nI b < 0 from nI_pos (by omega)) ⟨ib, ?_⟩
    rw [cb, hu b b2]
    -- what stands behind the taking of the block
    have tail : ∀ (fb : Int32) (ln : Nat → Int32) (sp dp : Int32) (ks bl sz lf nx pv sr rt pa wy : Nat → Int32) (F1 : Nat → Bool), (∀ x, x < 192 → (F1 x = true ↔ ev_cu pc x 512 + (if some b = some x then 1 else 0) = 0)) → ev_FE F1 fb ln sp ks bl sz lf nx pv sr rt →
        wX_put_39 post (nI b) (ev_o oo) fb sp dp kp lg' ls fd mn (upd pc k (ev_o (some b))) us it ln ks bl sz lf nx pv sr rt pa wy oa' ov' bg := by
      intro fb ln sp dp ks bl sz lf nx pv sr rt pa wy F1 hF1 E1
      refine And.intro ib (And.intro ib (fun u eu => ?_))
      rw [nI_clamp (by omega), hu b b2, nI_1, ev_nbb (by omega)] at eu
      refine ev_put50 (F1 := F1) g' hob (fun x hx => ?_) (fun x hx => ?_) E1 (fun fb' us' ln' sp' dp' ks' bl' sz' lf' nx' pv' sr' rt' pa' wy' P' => H lg' oa' ov' fb' us' ln' sp' dp' ks' bl' sz' lf' nx' pv' sr' rt' pa' wy' hQ P')
      · rw [cuu x hx]
        by_cases e : x = b
        · rw [e, eu, pk_us, if_pos rfl]
        · rw [eu, pk_un e, hu x hx, if_neg (fun q => e (by simpa using q.symm))]; rfl
      · rw [cuu x hx]; exact hF1 x hx
    by_cases c : ev_cu pc b 512 = 0
    · refine br_t (by rw [c]; rfl) ?_
      refine ev_take (b := b) E b2 (ev_Fo_t.mpr c) (fun fb' ln' sp' dp' ks' bl' sz' lf' nx' pv' sr' rt' pa' wy' E' => ?_)
      refine tail fb' ln' sp' dp' ks' bl' sz' lf' nx' pv' sr' rt' pa' wy' (ev_u (ev_Fo pc) b false) (fun x hx => ?_) E'
      by_cases e : x = b
      · rw [e, ev_us, if_pos rfl]; simp
      · rw [ev_un e, if_neg (fun q => e (by simpa using q.symm)), Nat.add_zero]; exact ev_Fo_t
    · refine br_f (fun e => c ((nI_eq (b := 0) (by omega) (by omega)).mp e)) ?_
      refine tail fb ln sp dp ks bl sz lf nx pv sr rt pa wy (ev_Fo pc) (fun x hx => ?_) E
      by_cases e : x = b
      · rw [e, if_pos rfl, ev_Fo_t]; omega
      · rw [if_neg (fun q => e (by simpa using q.symm)), Nat.add_zero]; exact ev_Fo_t
/-- one row of the log takes a state back -/
def ev_bk (a v : Int32) (p i p' i' : Nat → Int32) : Prop :=
  (∃ k, k < 512 ∧ a = nI k ∧ p = upd p' k v ∧ i = i' ∧ v = p k) ∨ (∃ b, b < 192 ∧ a = nI (512 + b) ∧ i = upd i' b v ∧ p = p')
/-- the log from its begin, as a chain of states; the first g0 of them are given -/
def ev_LX (g0 : Nat) (HP HI : Nat → Nat → Int32) (g : Nat) (pc it oa ov : Nat → Int32) : Prop :=
  ∃ P I : Nat → Nat → Int32, (∀ j, j ≤ g0 → P j = HP j ∧ I j = HI j) ∧ P g = pc ∧ I g = it ∧ g0 ≤ g ∧ (∀ j, j < g → ev_bk (oa j) (ov j) (P j) (I j) (P (j + 1)) (I (j + 1))) ∧ (∀ j, j ≤ g → ev_gd (P j))
theorem ev_bk_c {a v a' v' : Int32} {p i p' i' : Nat → Int32} (h : ev_bk a v p i p' i') (e1 : a' = a) (e2 : v' = v) : ev_bk a' v' p i p' i' := by
  rw [e1, e2]; exact h
theorem ev_LX_add {g0 g : Nat} {HP HI : Nat → Nat → Int32} {a v : Int32} {pc' it' : Nat → Int32} (h : ev_LX g0 HP HI g pc it oa ov) (hb : ev_bk a v pc it pc' it') (gd : ev_gd pc') : ev_LX g0 HP HI (g + 1) pc' it' (upd oa g a) (upd ov g v) := by
  obtain ⟨P, I, h1, h2, h3, h4, h5, h6⟩ := h
  refine ⟨ev_u P (g + 1) pc', ev_u I (g + 1) it', fun j hj => ?_, ev_us, ev_us, by omega, fun j hj => ?_, fun j hj => ?_⟩
  · rw [ev_un (by omega), ev_un (by omega)]; exact h1 j hj
  · by_cases c : j = g
    · subst c
      rw [pk_us, pk_us, ev_us, ev_us, ev_un (by omega), ev_un (by omega), h2, h3]
      exact hb
    · rw [pk_un c, pk_un c, ev_un (by omega), ev_un (by omega), ev_un (by omega), ev_un (by omega)]
      exact h5 j (by omega)
  · by_cases c : j = g + 1
    · rw [c, ev_us]; exact gd
    · rw [ev_un c]; exact h6 j (by omega)
theorem ev_upd_back {f : Nat → Int32} {k : Nat} {v : Int32} : f = upd (upd f k v) k (f k) := by
  funext j
  by_cases c : j = k
  · rw [c, pk_us]
  · rw [pk_un c, pk_un c]
theorem ev_log1 {post : SX → Prop} {g a : Nat} {v : Int32} (hg : g < 560) (ha : a < 32768) (H : post (fb, sp, dp, kp, nI (g + 1), 1, fd, mn, pc, us, it, ln, ks, bl, sz, lf, nx, pv, sr, rt, pa, wy, upd oa g (nI a), upd ov g v, bg)) : wpX_log post (fb, sp, dp, kp, nI g, 1, fd, mn, pc, us, it, ln, ks, bl, sz, lf, nx, pv, sr, rt, pa, wy, oa, ov, bg) (nI a) v := by
  refine br_f (show ¬ (1 : Int32) = 0 by decide) ⟨vp_in_nI hg (by omega), fun p ep y ey => ⟨vp_in_nI hg (by omega), fun q eq => ?_⟩⟩
  rw [nI_clamp (by omega), ev_nss ha] at ep
  rw [nI_clamp (by omega)] at eq
  rw [nI_1] at ey
  rw [ep, ey, eq]
  exact H
theorem ev_log0 {post : SX → Prop} {x v : Int32} (H : post (fb, sp, dp, kp, lg, 0, fd, mn, pc, us, it, ln, ks, bl, sz, lf, nx, pv, sr, rt, pa, wy, oa, ov, bg)) : wpX_log post (fb, sp, dp, kp, lg, 0, fd, mn, pc, us, it, ln, ks, bl, sz, lf, nx, pv, sr, rt, pa, wy, oa, ov, bg) x v :=
  br_t rfl H
/-- put with the log on -/
theorem ev_putL {post : SX → Prop} {g0 g k : Nat} {HP HI : Nat → Nat → Int32} {o : Option Nat} (P : ev_PX pc fb us ln sp ks bl sz lf nx pv sr rt) (L : ev_LX g0 HP HI g pc it oa ov) (hg : g < 560) (hk : k < 512) (hb : ∀ b, o = some b → b < 192) (g' : ev_gd (upd pc k (ev_o o)))
    (H : ∀ oa' ov' fb' us' ln' sp' dp' ks' bl' sz' lf' nx' pv' sr' rt' pa' wy', ev_LX g0 HP HI (g + 1) (upd pc k (ev_o o)) it oa' ov' → ev_PX (upd pc k (ev_o o)) fb' us' ln' sp' ks' bl' sz' lf' nx' pv' sr' rt' → post (fb', sp', dp', kp, nI (g + 1), 1, fd, mn, upd pc k (ev_o o), us', it, ln', ks', bl', sz', lf', nx', pv', sr', rt', pa', wy', oa', ov', bg)) :
    wpX_put post (fb, sp, dp, kp, nI g, 1, fd, mn, pc, us, it, ln, ks, bl, sz, lf, nx, pv, sr, rt, pa, wy, oa, ov, bg) (nI k) (ev_o o) := by
  obtain ⟨oo, hoo, hob⟩ := P.1.1 k hk
  refine ev_put (Q := fun lg' oa' ov' => lg' = nI (g + 1) ∧ ev_LX g0 HP HI (g + 1) (upd pc k (ev_o o)) it oa' ov') P hk hoo hob hb g' (fun post2 H2 => ?_) (fun lg' oa' ov' fb' us' ln' sp' dp' ks' bl' sz' lf' nx' pv' sr' rt' pa' wy' hQ P' => ?_)
  · refine ev_log1 hg (by omega) (H2 _ _ _ ⟨rfl, ?_⟩)
    refine ev_LX_add L (Or.inl ⟨k, hk, rfl, ?_, rfl, hoo.symm⟩) g'
    rw [← hoo]; exact ev_upd_back
  · rw [hQ.1]
    exact H oa' ov' fb' us' ln' sp' dp' ks' bl' sz' lf' nx' pv' sr' rt' pa' wy' hQ.2 P'
/-- put with the log off -/
theorem ev_put0 {post : SX → Prop} {k : Nat} {o : Option Nat} (P : ev_PX pc fb us ln sp ks bl sz lf nx pv sr rt) (hk : k < 512) (hb : ∀ b, o = some b → b < 192) (g' : ev_gd (upd pc k (ev_o o)))
    (H : ∀ fb' us' ln' sp' dp' ks' bl' sz' lf' nx' pv' sr' rt' pa' wy', ev_PX (upd pc k (ev_o o)) fb' us' ln' sp' ks' bl' sz' lf' nx' pv' sr' rt' → post (fb', sp', dp', kp, lg, 0, fd, mn, upd pc k (ev_o o), us', it, ln', ks', bl', sz', lf', nx', pv', sr', rt', pa', wy', oa, ov, bg)) :
    wpX_put post (fb, sp, dp, kp, lg, 0, fd, mn, pc, us, it, ln, ks, bl, sz, lf, nx, pv, sr, rt, pa, wy, oa, ov, bg) (nI k) (ev_o o) := by
  obtain ⟨oo, hoo, hob⟩ := P.1.1 k hk
  refine ev_put (Q := fun lg' oa' ov' => lg' = lg ∧ oa' = oa ∧ ov' = ov) P hk hoo hob hb g' (fun post2 H2 => ev_log0 (H2 _ _ _ ⟨rfl, rfl, rfl⟩)) (fun lg' oa' ov' fb' us' ln' sp' dp' ks' bl' sz' lf' nx' pv' sr' rt' pa' wy' hQ P' => ?_)
  rw [hQ.1, hQ.2.1, hQ.2.2]
  exact H fb' us' ln' sp' dp' ks' bl' sz' lf' nx' pv' sr' rt' pa' wy' P'
theorem ev_fillL {post : SX → Prop} {g0 g b : Nat} {HP HI : Nat → Nat → Int32} {v : Int32} (L : ev_LX g0 HP HI g pc it oa ov) (gd : ev_gd pc) (hg : g < 560) (hb : b < 192)
    (H : ∀ oa' ov', ev_LX g0 HP HI (g + 1) pc (upd it b v) oa' ov' → post (fb, sp, dp, kp, nI (g + 1), 1, fd, mn, pc, us, upd it b v, ln, ks, bl, sz, lf, nx, pv, sr, rt, pa, wy, oa', ov', bg)) :
    wpX_fill post (fb, sp, dp, kp, nI g, 1, fd, mn, pc, us, it, ln, ks, bl, sz, lf, nx, pv, sr, rt, pa, wy, oa, ov, bg) (nI b) v := by
  refine And.intro (vp_in_nI hb (by omega)) ?_
  show wpX_log _ _ (nI 512 + nI b) _
  rw [nI_add, nI_clamp (show b < 2 ^ 31 by omega)]
  refine ev_log1 hg (by omega) ?_
  refine And.intro (vp_in_nI hb (by omega)) (fun q eq => ?_)
  rw [eq]
  exact H _ _ (ev_LX_add L (Or.inr ⟨b, hb, rfl, ev_upd_back, rfl⟩) gd)
end
end
section
/-! where the next pieces go: the pure answer, its uniqueness and existence -/
def ev_shC (F : Nat → Bool) (g least s : Nat) : Prop := ev_st F s ∧ s / 64 = g ∧ least ≤ ev_rl F s
def ev_shM (F : Nat → Bool) (g least s : Nat) : Prop := ev_shC F g least s ∧ ∀ s', ev_shC F g least s' → ev_ky s (ev_rl F s) ≤ ev_ky s' (ev_rl F s')
def ev_loM (F : Nat → Bool) (s : Nat) : Prop := ev_st F s ∧ ∀ s', ev_st F s' → ev_rl F s' ≤ ev_rl F s ∧ (ev_rl F s' = ev_rl F s → s ≤ s')
def ev_ad (F : Nat → Bool) (bef : Option Nat) (p : Nat) : Prop := ∃ b, bef = some b ∧ p = b + 1 ∧ p % 64 ≠ 0 ∧ F p = true
def ev_SK (F : Nat → Bool) (file : Nat) (bef : Option Nat) (left s m : Nat) : Prop :=
  (ev_ad F bef s ∧ m = if ev_rl F s ≤ left then ev_rl F s else left) ∨
  ((∀ p, ¬ ev_ad F bef p) ∧
    ((∃ k, k < 3 ∧ (∀ k', k' < k → ∀ s', ¬ ev_shC F ((file + k') % 3) left s') ∧ ev_shM F ((file + k) % 3) left s ∧ m = left) ∨
     ((∀ k, k < 3 → ∀ s', ¬ ev_shC F ((file + k) % 3) left s') ∧ ev_loM F s ∧ m = ev_rl F s)))
theorem ev_shM_u {F : Nat → Bool} {g least s s' : Nat} (h : ev_shM F g least s) (h' : ev_shM F g least s') : s = s' := by
  have a := h.2 s' h'.1
  have b := h'.2 s h.1
  exact (ev_ky_inj h.1.1.1 h'.1.1.1 (ev_rl_le F s) (ev_rl_le F s') (by omega)).1
theorem ev_loM_u {F : Nat → Bool} {s s' : Nat} (h : ev_loM F s) (h' : ev_loM F s') : s = s' := by
  have a := h.2 s' h'.1
  have b := h'.2 s h.1
  have e : ev_rl F s = ev_rl F s' := by omega
  have c := a.2 e.symm
  have d := b.2 e
  omega
theorem ev_SK_u {F : Nat → Bool} {file left s m s' m' : Nat} {bef : Option Nat} (h : ev_SK F file bef left s m) (h' : ev_SK F file bef left s' m') : s = s' ∧ m = m' := by
  have adu : ∀ p p', ev_ad F bef p → ev_ad F bef p' → p = p' := by
    rintro p p' ⟨b, e, e2, _⟩ ⟨b', e', e2', _⟩
    rw [e] at e'
    have : b = b' := by simpa using e'
    omega
  rcases h with ⟨a1, a2⟩ | ⟨a1, a2⟩
  · rcases h' with ⟨b1, b2⟩ | ⟨b1, b2⟩
    · have e := adu s s' a1 b1
      subst e
      exact ⟨rfl, by rw [a2, b2]⟩
    · exact absurd a1 (b1 s)
  · rcases h' with ⟨b1, b2⟩ | ⟨b1, b2⟩
    · exact absurd b1 (a1 s')
    · rcases a2 with ⟨k, k3, kn, km, e⟩ | ⟨kn, km, e⟩
      · rcases b2 with ⟨k', k3', kn', km', e'⟩ | ⟨kn', km', e'⟩
        · have ek : k = k' := by
            rcases Nat.lt_trichotomy k k' with c | c | c
            · exact absurd km.1 (kn' k c s)
            · exact c
            · exact absurd km'.1 (kn k' c s')
          subst ek
          exact ⟨ev_shM_u km km', by rw [e, e']⟩
        · exact absurd km.1 (kn' k k3 s)
      · rcases b2 with ⟨k', k3', kn', km', e'⟩ | ⟨kn', km', e'⟩
        · exact absurd km'.1 (kn k' k3' s')
        · have := ev_loM_u km km'
          subst this
          exact ⟨rfl, by rw [e, e']⟩
theorem ev_shM_ex {F : Nat → Bool} {g least : Nat} (h : ∃ s, ev_shC F g least s) : ∃ s, ev_shM F g least s := by
  obtain ⟨s0, h0⟩ := h
  obtain ⟨x, ⟨s, hs, ex⟩, hx⟩ := pk_least (fun x => ∃ s, ev_shC F g least s ∧ x = ev_ky s (ev_rl F s)) ⟨_, s0, h0, rfl⟩
  refine ⟨s, hs, fun s' hs' => ?_⟩
  by_cases c : ev_ky s (ev_rl F s) ≤ ev_ky s' (ev_rl F s')
  · exact c
  · exact absurd ⟨s', hs', rfl⟩ (hx (ev_ky s' (ev_rl F s')) (by omega))
theorem ev_loM_ex {F : Nat → Bool} (h : ∃ s, ev_st F s) : ∃ s, ev_loM F s := by
  obtain ⟨s0, h0⟩ := h
  obtain ⟨x, ⟨s, hs, ex⟩, hx⟩ := pk_least (fun x => ∃ s, ev_st F s ∧ x = (64 - ev_rl F s) * 256 + s) ⟨_, s0, h0, rfl⟩
  refine ⟨s, hs, fun s' hs' => ?_⟩
  have l1 := ev_rl_le F s
  have l2 := ev_rl_le F s'
  have b1 := hs.1
  have b2 := hs'.1
  by_cases c : (64 - ev_rl F s) * 256 + s ≤ (64 - ev_rl F s') * 256 + s'
  · exact ⟨by omega, fun e => by omega⟩
  · exact absurd ⟨s', hs', rfl⟩ (hx _ (by omega))
theorem ev_free_st {F : Nat → Bool} (h : 0 < ev_cn F 192) : ∃ s, ev_st F s := by
  have : ∃ b, b < 192 ∧ F b = true := by
    refine Classical.byContradiction (fun q => ?_)
    have z : ∀ n, n ≤ 192 → ev_cn F n = 0 := by
      intro n
      induction n with
      | zero => intro _; rfl
      | succ n ih =>
        intro hn
        show ev_cn F n + (if F n = true then 1 else 0) = 0
        rw [ih (by omega), if_neg (fun e => q ⟨n, by omega, e⟩)]
    have := z 192 (Nat.le_refl _)
    omega
  obtain ⟨b, hb, hF⟩ := this
  obtain ⟨s, hs, _⟩ := ev_run hb hF
  exact ⟨s, hs⟩
theorem ev_SK_ex {F : Nat → Bool} {file left : Nat} {bef : Option Nat} (h : 0 < ev_cn F 192) : ∃ s m, ev_SK F file bef left s m := by
  by_cases c : ∃ p, ev_ad F bef p
  · obtain ⟨p, hp⟩ := c
    exact ⟨p, _, Or.inl ⟨hp, rfl⟩⟩
  · have c' : ∀ p, ¬ ev_ad F bef p := fun p hp => c ⟨p, hp⟩
    by_cases c2 : ∃ k, k < 3 ∧ ∃ s', ev_shC F ((file + k) % 3) left s'
    · obtain ⟨k, ⟨k3, hk⟩, hmin⟩ := pk_least (fun k => k < 3 ∧ ∃ s', ev_shC F ((file + k) % 3) left s') c2
      obtain ⟨s, hs⟩ := ev_shM_ex hk
      exact ⟨s, left, Or.inr ⟨c', Or.inl ⟨k, k3, fun k' hk' s' hs' => hmin k' hk' ⟨by omega, s', hs'⟩, hs, rfl⟩⟩⟩
    · obtain ⟨s, hs⟩ := ev_loM_ex (ev_free_st h)
      exact ⟨s, _, Or.inr ⟨c', Or.inr ⟨fun k k3 s' hs' => c2 ⟨k, k3, s', hs'⟩, hs, rfl⟩⟩⟩
theorem ev_SK_ok {F : Nat → Bool} {file left s m : Nat} {bef : Option Nat} (hbef : ∀ b, bef = some b → b < 192) (hl : 1 ≤ left) (h : ev_SK F file bef left s m) : 1 ≤ m ∧ m ≤ left ∧ s < 192 ∧ s % 64 + m ≤ 64 ∧ ∀ j, j < m → F (s + j) = true := by
  have r := ev_rl_ok F s
  have r2 := r.2.1
  rcases h with ⟨⟨b, e1, e2, e3, e4⟩, hm⟩ | ⟨_, ⟨k, k3, kn, km, e⟩ | ⟨kn, km, e⟩⟩
  · have hb := hbef b e1
    have hp := ev_rl_pos e4
    have hle : m ≤ ev_rl F s := by rw [hm]; split <;> omega
    refine ⟨by rw [hm]; split <;> omega, by rw [hm]; split <;> omega, by omega, by omega, fun j hj => r.1 j (by omega)⟩
  · have q := km.1
    have := q.2.2
    exact ⟨by omega, by omega, q.1.1, by omega, fun j hj => r.1 j (by omega)⟩
  · have hp := ev_rl_pos km.1.2.1
    have lt : ev_rl F s < left := by
      have hs := km.1.1
      obtain ⟨k, k3, ek⟩ : ∃ k, k < 3 ∧ (file + k) % 3 = s / 64 := by
        refine ⟨(s / 64 + 3 - file % 3) % 3, Nat.mod_lt _ (by omega), by omega⟩
      by_cases c : ev_rl F s < left
      · exact c
      · exact absurd ⟨km.1, ek.symm, by omega⟩ (kn k k3 s)
    exact ⟨by omega, by omega, km.1.1, by omega, fun j hj => r.1 j (by omega)⟩
/-- the run behind a block of a run -/
theorem ev_rl_in {F : Nat → Bool} {y p : Nat} (h1 : y ≤ p) (h2 : p < y + ev_rl F y) : ev_rl F p = y + ev_rl F y - p := by
  obtain ⟨m1, m2, m3⟩ := ev_rl_ok F y
  refine ev_rl_e ⟨fun j hj => ?_, by omega, ?_⟩
  · have := m1 (p + j - y) (by omega)
    rw [show y + (p + j - y) = p + j from by omega] at this
    exact this
  · rcases m3 with e | e
    · left; omega
    · right; rw [show p + (y + ev_rl F y - p) = y + ev_rl F y from by omega]; exact e
end
section
/-! the walk of seek -/
theorem ev_k1 {g l : Nat} (hg : g < 4) (hl : l < 256) : (nI g <<< ((16 : Int32) &&& 31)) ||| (nI l <<< ((8 : Int32) &&& 31)) = nI (g * 65536 + l * 256) := by
  rw [pk_shlN ((16 : Int32) &&& 31) 16 (by decide) (by omega), pk_shlN ((8 : Int32) &&& 31) 8 (by decide) (by omega)]
  exact ev_or2 (a := g) 16 65536 (by decide) rfl (by omega) (by omega) (by omega)
theorem ev_k2 {g : Nat} (hg : g < 4) : (nI g <<< ((16 : Int32) &&& 31)) ||| 65535 = nI (g * 65536 + 65535) := by
  rw [pk_shlN ((16 : Int32) &&& 31) 16 (by decide) (by omega)]
  exact ev_or2 (a := g) (b := 65535) 16 65536 (by decide) rfl (by omega) (by omega) (by omega)
theorem ev_k16 {x : Nat} (h : x < 2 ^ 31) : nI x >>> ((16 : Int32) &&& 31) = nI (x / 65536) := pk_shrN h _ 16 (by decide)
theorem ev_k8 {x : Nat} (h : x < 2 ^ 31) : (nI x >>> ((8 : Int32) &&& 31)) &&& 255 = nI (x / 256 % 256) := by
  rw [pk_shrN h _ 8 (by decide)]
  exact pk_andN (by omega) 8 (by decide)
theorem ev_k0 {x : Nat} (h : x < 2 ^ 31) : nI x &&& 255 = nI (x % 256) := pk_andN (by omega) 8 (by decide)
theorem ev_ky_parts {s l : Nat} (h : s < 192) (hl : l ≤ 64) : ev_ky s l / 65536 = s / 64 ∧ ev_ky s l / 256 % 256 = l ∧ ev_ky s l % 256 = s := by
  unfold ev_ky
  omega
section
variable {fb sp dp kp lg ls fd mn : Int32} {pc us it ln ks bl sz lf nx pv sr rt pa wy oa ov bg : Nat → Int32}
/-- the best of the groups below g -/
def ev_loI (F : Nat → Bool) (g m s : Nat) : Prop :=
  (∀ s', ev_st F s' → s' / 64 < g → ev_rl F s' ≤ m ∧ (ev_rl F s' = m → s ≤ s')) ∧ (m = 0 ∨ (ev_st F s ∧ ev_rl F s = m ∧ s / 64 < g))
theorem ev_seek152 {post : SX → Prop} {F : Nat → Bool} {K : Nat → List Nat} (X : ev_FX (ev_st F) (ev_rl F) K ln) (I : ev_TI K sp ks bl sz lf nx pv sr rt)
    (H : ∀ m s fd' dp' pa' wy', ev_loI F 3 m s → (m = 0 ∨ fd' = nI s) → post (fb, sp, dp', kp, lg, ls, fd', nI m, pc, us, it, ln, ks, bl, sz, lf, nx, pv, sr, rt, pa', wy', oa, ov, bg)) :
    ∀ (d g m s : Nat) (fd dp : Int32) (pa wy : Nat → Int32), g + d = 3 → m ≤ 64 → ev_loI F g m s → (m = 0 ∨ fd = nI s) → wX_seek_152 post (d + 1) (nI g) fb sp dp kp lg ls fd (nI m) pc us it ln ks bl sz lf nx pv sr rt pa wy oa ov bg := by
  have K96 := ev_FX96 (F := F) X I (fun x hx => hx)
  have K96' : (K 1).length ≤ 96 := by rw [← X.2.2.1]; exact K96
  have inK : ∀ s, ev_st F s → ev_ky s (ev_rl F s) ∈ K 1 := fun s hs => (X.2.1 _).mpr ⟨s, hs, rfl⟩
  intro d
  induction d with
  | zero =>
    intro g m s fd dp pa wy hg hm hI hf
    have : g = 3 := by omega
    subst this
    exact br_t (nI_le (a := 3) (Nat.le_refl _) (by omega)) (H m s fd dp pa wy hI hf)
  | succ d ih =>
    intro g m s fd dp pa wy hg hm hI hf
    refine br_f (nI_ge (b := 3) (by omega) (by omega)) ?_
    rw [ev_k2 (by omega)]
    refine ev_notAbove (t := 1) (dp := dp) I (by omega) K96' (by omega) (fun r dp' pa' wy' hr => ?_)
    -- nothing in group g
    have skip : (∀ s', ev_st F s' → s' / 64 ≠ g) → ∀ x5 : Int32, x5 = nI g + 1 → wX_seek_152 post (d + 1) x5 fb sp dp' kp lg ls fd (nI m) pc us it ln ks bl sz lf nx pv sr rt pa' wy' oa ov bg := by
      intro hno x5 e5
      rw [nI_1] at e5
      subst e5
      refine ih (g + 1) m s fd dp' pa' wy' (by omega) hm ⟨fun s' hs' hg' => ?_, ?_⟩ hf
      · have := hno s' hs'
        exact hI.1 s' hs' (by omega)
      · rcases hI.2 with e | ⟨e1, e2, e3⟩
        · exact Or.inl e
        · exact Or.inr ⟨e1, e2, by omega⟩
    cases r with
    | none =>
      refine br_t (show (-1 : Int32) < 0 by decide) (skip (fun s' hs' e => ?_))
      have := hr _ (inK s' hs')
      have p := (ev_ky_parts hs'.1 (ev_rl_le F s')).1
      have q := hs'.1
      have w := ev_rl_le F s'
      unfold ev_ky at this
      omega
    | some x =>
      obtain ⟨x1, x2, x3⟩ := hr
      obtain ⟨s0, hs0, ex⟩ := (X.2.1 x).mp x1
      have l0 := ev_rl_le F s0
      have b0 := hs0.1
      obtain ⟨p1, p2, p3⟩ := ev_ky_parts b0 l0
      have xlt : x < 2 ^ 31 := by omega
      refine br_f (show ¬ nI x < 0 from nI_pos (by omega)) ?_
      show (nI x >>> ((16 : Int32) &&& 31) = nI g → _) ∧ (¬ nI x >>> ((16 : Int32) &&& 31) = nI g → _)
      rw [ev_k16 xlt, ex, p1]
      by_cases c : s0 / 64 = g
      · refine br_t (by rw [c]) ?_
        show (nI m < nI (ev_ky s0 (ev_rl F s0)) >>> ((8 : Int32) &&& 31) &&& 255 → _) ∧ (¬ nI m < nI (ev_ky s0 (ev_rl F s0)) >>> ((8 : Int32) &&& 31) &&& 255 → _)
        rw [ev_k8 (by omega), p2]
        -- s0 has the greatest key of its group
        have mx : ∀ s', ev_st F s' → s' / 64 = g → ev_rl F s' ≤ ev_rl F s0 := by
          intro s' hs' e
          have w := ev_rl_le F s'
          have q := hs'.1
          have := x3 _ (inK s' hs') (by unfold ev_ky; omega)
          rw [ex] at this
          unfold ev_ky at this
          omega
        by_cases c2 : m < ev_rl F s0
        · refine br_t (nI_lt c2 (by omega)) (fun y ey => ?_)
          have ey' : y = nI (ev_rl F s0) := by
            rw [ey]
            show nI (ev_ky s0 (ev_rl F s0)) >>> ((8 : Int32) &&& 31) &&& 255 = _
            rw [ev_k8 (by omega), p2]
          subst ey'
          show wpX_notBelow _ _ 1 ((nI g <<< ((16 : Int32) &&& 31)) ||| (nI (ev_rl F s0) <<< ((8 : Int32) &&& 31)))
          rw [ev_k1 (by omega) (by omega)]
          refine ev_notBelow (t := 1) (dp := dp') I (by omega) K96' (by omega) (fun r2 dp2 pa2 wy2 hr2 => ?_)
          cases r2 with
          | none =>
            have := hr2 _ (inK s0 hs0)
            unfold ev_ky at this
            omega
          | some y =>
            obtain ⟨y1, y2, y3⟩ := hr2
            obtain ⟨s1, hs1, ey⟩ := (X.2.1 y).mp y1
            have l1 := ev_rl_le F s1
            have b1 := hs1.1
            obtain ⟨q1, q2, q3⟩ := ev_ky_parts b1 l1
            have le := y3 _ (inK s0 hs0) (by unfold ev_ky; omega)
            have g1 : s1 / 64 = g := by
              rw [ey] at y2 le
              unfold ev_ky at y2 le
              omega
            have r1 : ev_rl F s1 = ev_rl F s0 := by
              have := mx s1 hs1 g1
              rw [ey] at y2
              unfold ev_ky at y2
              omega
            intro f ef z ez
            have ef' : f = nI s1 := by
              rw [ef]
              show nI y &&& 255 = nI s1
              rw [ev_k0 (by rw [ey]; have := ev_ky_lt b1 l1; omega), ey, q3]
            rw [nI_1] at ez
            subst ez
            subst ef'
            refine ih (g + 1) (ev_rl F s0) s1 (nI s1) dp2 pa2 wy2 (by omega) l0 ⟨fun s' hs' hg' => ?_, Or.inr ⟨hs1, r1, by omega⟩⟩ (Or.inr rfl)
            by_cases e : s' / 64 = g
            · refine ⟨mx s' hs' e, fun e2 => ?_⟩
              have q := hs'.1
              have := y3 _ (inK s' hs') (by unfold ev_ky; omega)
              rw [ey] at this
              unfold ev_ky at this
              omega
            · have := (hI.1 s' hs' (by omega)).1
              exact ⟨by omega, fun e2 => by omega⟩
        · refine br_f (nI_nlt (by omega) (by omega)) (fun x5 e5 => ?_)
          rw [nI_1] at e5
          subst e5
          have hp := ev_rl_pos hs0.2.1
          refine ih (g + 1) m s fd dp' pa' wy' (by omega) hm ⟨fun s' hs' hg' => ?_, ?_⟩ hf
          · by_cases e : s' / 64 = g
            · have := mx s' hs' e
              refine ⟨by omega, fun e2 => ?_⟩
              rcases hI.2 with e3 | ⟨e3, e4, e5⟩
              · omega
              · omega
            · exact hI.1 s' hs' (by omega)
          · rcases hI.2 with e3 | ⟨e3, e4, e5⟩
            · omega
            · exact Or.inr ⟨e3, e4, by omega⟩
      · refine br_f (fun e => c ((nI_eq (by omega) (by omega)).mp e)) (skip (fun s' hs' e => ?_))
        have w := ev_rl_le F s'
        have q := hs'.1
        have := x3 _ (inK s' hs') (by unfold ev_ky; omega)
        rw [ex] at this x2
        unfold ev_ky at this x2
        omega
theorem ev_seek81 {post : SX → Prop} {F : Nat → Bool} {K : Nat → List Nat} {file left : Nat} (X : ev_FX (ev_st F) (ev_rl F) K ln) (I : ev_TI K sp ks bl sz lf nx pv sr rt) (hf8 : file < 8) (hl1 : 1 ≤ left) (hl : left ≤ 64)
    (H1 : ∀ k s dp' pa' wy', k < 3 → (∀ k', k' < k → ∀ s', ¬ ev_shC F ((file + k') % 3) left s') → ev_shM F ((file + k) % 3) left s → post (fb, sp, dp', kp, lg, ls, nI s, nI left, pc, us, it, ln, ks, bl, sz, lf, nx, pv, sr, rt, pa', wy', oa, ov, bg))
    (H2 : ∀ m s fd' dp' pa' wy', (∀ k, k < 3 → ∀ s', ¬ ev_shC F ((file + k) % 3) left s') → ev_loI F 3 m s → (m = 0 ∨ fd' = nI s) → post (fb, sp, dp', kp, lg, ls, fd', nI m, pc, us, it, ln, ks, bl, sz, lf, nx, pv, sr, rt, pa', wy', oa, ov, bg)) :
    ∀ (d k : Nat) (dp : Int32) (pa wy : Nat → Int32), k + d = 3 → (∀ k', k' < k → ∀ s', ¬ ev_shC F ((file + k') % 3) left s') → wX_seek_81 post (nI file) (nI left) (d + 1) (nI k) fb sp dp kp lg ls fd (nI left) pc us it ln ks bl sz lf nx pv sr rt pa wy oa ov bg := by
  have K96 := ev_FX96 (F := F) X I (fun x hx => hx)
  have K96' : (K 1).length ≤ 96 := by rw [← X.2.2.1]; exact K96
  have inK : ∀ s, ev_st F s → ev_ky s (ev_rl F s) ∈ K 1 := fun s hs => (X.2.1 _).mpr ⟨s, hs, rfl⟩
  intro d
  induction d with
  | zero =>
    intro k dp pa wy hk hno
    have : k = 3 := by omega
    subst this
    refine br_t (nI_le (a := 3) (Nat.le_refl _) (by omega)) (Exists.intro 4 ?_)
    exact ev_seek152 X I (fun m s fd' dp' pa' wy' a b => H2 m s fd' dp' pa' wy' hno a b) 3 0 0 0 fd dp pa wy (by omega) (by omega) ⟨fun s' _ h => absurd h (Nat.not_lt_zero _), Or.inl rfl⟩ (Or.inl rfl)
  | succ d ih =>
    intro k dp pa wy hk hno
    refine br_f (nI_ge (b := 3) (by omega) (by omega)) ⟨by decide, fun y ey => ?_⟩
    have ey' : y = nI ((file + k) % 3) := by
      rw [ey, nI_add]
      exact pk_rem (d := 3) (by omega) (by omega) (by omega)
    subst ey'
    have hg : (file + k) % 3 < 3 := Nat.mod_lt _ (by omega)
    rw [ev_k1 (by omega) (by omega)]
    refine ev_notBelow (t := 1) (dp := dp) I (by omega) K96' (by omega) (fun r dp' pa' wy' hr => ?_)
    have skip : (∀ s', ¬ ev_shC F ((file + k) % 3) left s') → ∀ x5 : Int32, x5 = nI k + 1 → wX_seek_81 post (nI file) (nI left) (d + 1) x5 fb sp dp' kp lg ls fd (nI left) pc us it ln ks bl sz lf nx pv sr rt pa' wy' oa ov bg := by
      intro hn x5 e5
      rw [nI_1] at e5
      subst e5
      refine ih (k + 1) dp' pa' wy' (by omega) (fun k' hk' => ?_)
      by_cases e : k' = k
      · rw [e]; exact hn
      · exact hno k' (by omega)
    cases r with
    | none =>
      refine br_t (show (-1 : Int32) < 0 by decide) (skip (fun s' hs' => ?_))
      have := hr _ (inK s' hs'.1)
      have := hs'.2
      unfold ev_ky at *
      omega
    | some x =>
      obtain ⟨x1, x2, x3⟩ := hr
      obtain ⟨s0, hs0, ex⟩ := (X.2.1 x).mp x1
      have l0 := ev_rl_le F s0
      have b0 := hs0.1
      obtain ⟨p1, p2, p3⟩ := ev_ky_parts b0 l0
      have xlt : x < 2 ^ 31 := by rw [ex]; have := ev_ky_lt b0 l0; omega
      refine br_f (show ¬ nI x < 0 from nI_pos (by omega)) ?_
      show (nI x >>> ((16 : Int32) &&& 31) = nI ((file + k) % 3) → _) ∧ (¬ nI x >>> ((16 : Int32) &&& 31) = nI ((file + k) % 3) → _)
      rw [ev_k16 xlt, ex, p1]
      by_cases c : s0 / 64 = (file + k) % 3
      · refine br_t (by rw [c]) (fun f ef => ?_)
        have ef' : f = nI s0 := by
          rw [ef]
          show nI (ev_ky s0 (ev_rl F s0)) &&& 255 = nI s0
          rw [ev_k0 (by rw [← ex]; exact xlt), p3]
        rw [ef']
        refine H1 k s0 dp' pa' wy' (by omega) hno ⟨⟨hs0, c, ?_⟩, fun s' hs' => ?_⟩
        · rw [ex] at x2
          unfold ev_ky at x2
          omega
        · have q := hs'.2
          have := x3 _ (inK s' hs'.1) (by unfold ev_ky; omega)
          rw [ex] at this
          exact this
      · refine br_f (fun e => c ((nI_eq (by omega) (by omega)).mp e)) (skip (fun s' hs' => ?_))
        have q := hs'.2
        have w := ev_rl_le F s'
        have q2 := hs'.1.1
        have := x3 _ (inK s' hs'.1) (by unfold ev_ky; omega)
        rw [ex] at this x2
        unfold ev_ky at this x2
        omega
theorem ev_seek {post : SX → Prop} {file left : Nat} {bef : Option Nat} (P : ev_PX pc fb us ln sp ks bl sz lf nx pv sr rt) (hf8 : file < 8) (hl1 : 1 ≤ left) (hl : left ≤ 64) (hbef : ∀ b, bef = some b → b < 192) (hfree : 0 < ev_cn (ev_Fo pc) 192)
    (H : ∀ s m dp' pa' wy', ev_SK (ev_Fo pc) file bef left s m → post (fb, sp, dp', kp, lg, ls, nI s, nI m, pc, us, it, ln, ks, bl, sz, lf, nx, pv, sr, rt, pa', wy', oa, ov, bg)) :
    wpX_seek post (fb, sp, dp, kp, lg, ls, fd, mn, pc, us, it, ln, ks, bl, sz, lf, nx, pv, sr, rt, pa, wy, oa, ov, bg) (nI file) (ev_o bef) (nI left) := by
  obtain ⟨g, hu, K, X, I, hfb⟩ := P
  have K96 := ev_FX96 (F := ev_Fo pc) X I (fun x hx => hx)
  intro x4 e4
  have main : (∀ p, ¬ ev_ad (ev_Fo pc) bef p) → ∃ n81, wX_seek_81 post (nI file) (nI left) n81 0 fb sp dp kp lg ls fd (nI left) pc us it ln ks bl sz lf nx pv sr rt pa wy oa ov bg := by
    intro hna
    refine ⟨4, ev_seek81 X I hf8 hl1 hl (fun k s dp' pa' wy' k3 kn km => H s left dp' pa' wy' (Or.inr ⟨hna, Or.inl ⟨k, k3, kn, km, rfl⟩⟩)) (fun m s fd' dp' pa' wy' kn hI hfd => ?_) 3 0 dp pa wy (by omega) (fun k' hk' => absurd hk' (Nat.not_lt_zero _))⟩
    obtain ⟨s', hs'⟩ := ev_free_st hfree
    have hp := ev_rl_pos hs'.2.1
    have hm := (hI.1 s' hs' (by have := hs'.1; omega)).1
    have hm0 : m ≠ 0 := by omega
    have hs := hI.2.resolve_left hm0
    rw [hfd.resolve_left hm0]
    refine H s m dp' pa' wy' (Or.inr ⟨hna, Or.inr ⟨kn, ⟨hs.1, fun s2 hs2 => ?_⟩, hs.2.1.symm⟩⟩)
    rw [hs.2.1]
    exact hI.1 s2 hs2 (by have := hs2.1; omega)
  cases bef with
  | none =>
    refine br_t (show (-1 : Int32) < 0 by decide) (main (fun p hp => ?_))
    obtain ⟨b, e, _⟩ := hp
    simp at e
  | some b =>
    have hb := hbef b rfl
    have e4' : x4 = nI (b + 1) := by rw [e4]; exact nI_1 b
    subst e4'
    refine br_f (show ¬ nI b < 0 from nI_pos (by omega)) ⟨by decide, ?_⟩
    rw [ev_r64 (by omega)]
    by_cases c : (b + 1) % 64 = 0
    · refine br_t (by rw [c]; rfl) (main (fun p hp => ?_))
      obtain ⟨b', e, e2, e3, _⟩ := hp
      have : b = b' := by simpa using e
      subst this
      rw [e2] at e3
      exact e3 c
    · refine br_f (fun e => c ((nI_eq (b := 0) (by omega) (by omega)).mp e)) ⟨vp_in_nI (by omega) (by omega), ?_⟩
      have cl := ev_cu_le pc (b + 1) 512
      rw [nI_clamp (by omega), hu (b + 1) (by omega)]
      by_cases c2 : ev_cu pc (b + 1) 512 = 0
      · have hF : ev_Fo pc (b + 1) = true := ev_Fo_t.mpr c2
        refine br_t (by rw [c2]; rfl) ?_
        refine ev_notAbove (t := 0) (dp := dp) I (by omega) K96 (by omega) (fun r dp' pa' wy' hr => ?_)
        obtain ⟨s, s1, s2, s3, s4⟩ := ev_run (b := b + 1) (by omega) hF
        obtain ⟨t1, _⟩ := ev_take_st (b := b + 1) (by omega) s1 s2 s3 s4
        have hr' : r = some s := by
          cases r with
          | none =>
            have := hr s ((X.1 s).mpr s1)
            omega
          | some y =>
            obtain ⟨y1, y2, y3⟩ := hr
            have hy := (X.1 y).mp y1
            have le := y3 s ((X.1 s).mpr s1) s2
            have : y = s := (ev_one (b := b + 1) (F := ev_Fo pc) hy.2.2 s1.2.2 y2 s2 (by omega) s3 (fun x h1 h2 => s4 x (by omega) (by omega)) (fun x h1 h2 => s4 x h1 (by omega)))
            rw [this]
        subst hr'
        obtain ⟨q1, q2, q3, q4⟩ := X.2.2.2 s s1
        refine ⟨vp_in_nI q1 (by omega), fun y ey => ?_⟩
        have hrl := ev_rl_in (F := ev_Fo pc) s2 t1
        have ey' : y = nI (ev_rl (ev_Fo pc) (b + 1)) := by
          rw [ey, show (ev_o (some s)).toNatClampNeg = s from nI_clamp (by omega), q4]
          show nI s + nI (ev_rl (ev_Fo pc) s) - nI (b + 1) = _
          rw [nI_add, pk_sub (by omega), hrl]
        subst ey'
        have had : ev_ad (ev_Fo pc) (some b) (b + 1) := ⟨b, rfl, rfl, c, hF⟩
        have l64 := ev_rl_le (ev_Fo pc) (b + 1)
        by_cases c3 : ev_rl (ev_Fo pc) (b + 1) ≤ left
        · exact br_t (nI_le c3 (by omega)) (H (b + 1) _ dp' pa' wy' (Or.inl ⟨had, by rw [if_pos c3]⟩))
        · exact br_f (nI_ge (by omega) (by omega)) (H (b + 1) left dp' pa' wy' (Or.inl ⟨had, by rw [if_neg c3]⟩))
      · refine br_f (fun e => c2 ((nI_eq (b := 0) (by omega) (by omega)).mp e)) (main (fun p hp => ?_))
        obtain ⟨b', e, e2, e3, e4⟩ := hp
        have : b = b' := by simpa using e
        subst this
        rw [e2] at e4
        exact c2 (ev_Fo_t.mp e4)
end
end
section
/-! the reference's walks: freeFrom, shortest, find -/
section
variable {yk yf yl : Int32} {ya yi ym yz : Nat → Int32}
def ev_ct (ya ym : Nat → Int32) : Prop := ∀ b, b < 192 → ym b = nI (ev_cu ya b 512)
theorem ev_ct0 {b : Nat} (h : ev_ct ya ym) (hb : b < 192) {A B : Prop} (f : ev_Fo ya b = true → A) (g : ev_Fo ya b = false → B) : (ym (nI b).toNatClampNeg = 0 → A) ∧ (¬ ym (nI b).toNatClampNeg = 0 → B) := by
  rw [nI_clamp (by omega), h b hb]
  have cl := ev_cu_le ya b 512
  refine ⟨fun e => f (ev_Fo_t.mpr ((nI_eq (b := 0) (by omega) (by omega)).mp e)), fun e => g (ev_Fo_f.mpr (fun e2 => e (by rw [e2]; rfl)))⟩
theorem ev_freeFrom2 {post : Int32 → Prop} {b : Nat} (h : ev_ct ya ym) (hb : b < 192) (H : post (nI (ev_rl (ev_Fo ya) b))) :
    ∀ (d i : Nat), b % 64 + i + d = 64 → (∀ j, j < i → ev_Fo ya (b + j) = true) → wY_freeFrom_2 post (nI b) yk yf yl ya yi ym yz (d + 1) (nI (b + i)) := by
  have fin : ∀ i, ev_rl (ev_Fo ya) b = i → post (nI (b + i) - nI b) := by
    intro i e
    rw [pk_sub (by omega), show b + i - b = i from by omega, ← e]; exact H
  intro d
  induction d with
  | zero =>
    intro i hi hF
    have e : ev_rl (ev_Fo ya) b = i := ev_rl_e ⟨hF, by omega, Or.inl (by omega)⟩
    by_cases c : b + i = 192
    · exact br_t (nI_le (a := 192) (by omega) (by omega)) (fin i e)
    · refine br_f (nI_ge (b := 192) (by omega) (by omega)) ⟨by decide, by decide, ?_⟩
      rw [ev_d64 (by omega), ev_d64 (by omega)]
      exact br_f (fun q => by have := (nI_eq (by omega) (by omega)).mp q; omega) (fin i e)
  | succ d ih =>
    intro i hi hF
    refine br_f (nI_ge (b := 192) (by omega) (by omega)) ⟨by decide, by decide, ?_⟩
    rw [ev_d64 (by omega), ev_d64 (by omega)]
    refine br_t (congrArg nI (by omega)) ⟨vp_in_nI (by omega) (by omega), ?_⟩
    refine ev_ct0 h (by omega) (fun hf y ey => ?_) (fun hf => fin i (ev_rl_e ⟨hF, by omega, Or.inr hf⟩))
    rw [nI_1] at ey
    subst ey
    refine ih (i + 1) (by omega) (fun j hj => ?_)
    by_cases e : j = i
    · rw [e]; exact hf
    · exact hF j (by omega)
theorem ev_freeFrom {post : Int32 → Prop} {b : Nat} (h : ev_ct ya ym) (hb : b < 192) (H : post (nI (ev_rl (ev_Fo ya) b))) : wpY_freeFrom post (yk, yf, yl, ya, yi, ym, yz) (nI b) :=
  Exists.intro (64 - b % 64 + 1) (ev_freeFrom2 h hb H (64 - b % 64) 0 (by omega) (fun j hj => absurd hj (Nat.not_lt_zero _)))
theorem ev_ky_le3 {b s s' g lb l l' : Nat} (hb : b / 64 = g) (hs : s / 64 = g) (hs' : s' / 64 = g) (h : b < 192) (lt : lb < l) (a : ev_ky s l ≤ ev_ky s' l') : ev_ky b lb ≤ ev_ky s' l' := by
  unfold ev_ky at *
  rw [hs, hs'] at a
  rw [hb, hs']
  clear hb hs hs'
  omega
/-- the best of a group below block b -/
def ev_shI (F : Nat → Bool) (g least b : Nat) : Option Nat → Nat → Prop
  | none, size => size = 65 ∧ ∀ s', ev_shC F g least s' → s' < b → False
  | some s, size => size = ev_rl F s ∧ ev_shC F g least s ∧ s < b ∧ ∀ s', ev_shC F g least s' → s' < b → ev_ky s (ev_rl F s) ≤ ev_ky s' (ev_rl F s')
theorem ev_shortest12 {post : Int32 → Prop} {g least : Nat} (h : ev_ct ya ym) (hg : g < 3) (hl1 : 1 ≤ least) (hl : least ≤ 64)
    (H : ∀ r, (∀ s, r = some s → ev_shM (ev_Fo ya) g least s) → (r = none → ∀ s, ¬ ev_shC (ev_Fo ya) g least s) → post (ev_o r)) :
    ∀ (d b : Nat) (r : Option Nat) (size : Nat), 64 * g ≤ b → b ≤ 64 * g + 64 → 64 * g + 64 ≤ b + d → (b % 64 = 0 ∨ ev_Fo ya (b - 1) = false ∨ ev_Fo ya b = false) → ev_shI (ev_Fo ya) g least b r size →
    wY_shortest_12 post (nI g) (nI least) yk yf yl ya yi ym yz (d + 1) (ev_o r) (nI size) (nI b) := by
  have e64 : (64 : Int32) * nI g + 64 = nI (64 * g + 64) := by
    show nI 64 * nI g + nI 64 = _
    rw [pk_mul, nI_add]
  intro d
  induction d with
  | zero =>
    intro b r size h1 h2 h3 _ hI
    have hb : b = 64 * g + 64 := by omega
    refine br_t (by rw [e64, hb]; exact nI_le (Nat.le_refl _) (by omega)) (H r (fun s e => ?_) (fun e s hs => ?_))
    · subst e
      obtain ⟨_, i1, i2, i3⟩ := hI
      exact ⟨i1, fun s' hs' => i3 s' hs' (by have := hs'.2.1; omega)⟩
    · subst e
      exact hI.2 s hs (by have := hs.2.1; omega)
  | succ d ih =>
    intro b r size h1 h2 h3 hst hI
    by_cases cb : b = 64 * g + 64
    · refine br_t (by rw [e64, cb]; exact nI_le (Nat.le_refl _) (by omega)) (H r (fun s e => ?_) (fun e s hs => ?_))
      · subst e
        obtain ⟨_, i1, i2, i3⟩ := hI
        exact ⟨i1, fun s' hs' => i3 s' hs' (by have := hs'.2.1; omega)⟩
      · subst e
        exact hI.2 s hs (by have := hs.2.1; omega)
    · have hb : b < 192 := by omega
      obtain ⟨m1, m2, m3⟩ := ev_rl_ok (ev_Fo ya) b
      have l64 := ev_rl_le (ev_Fo ya) b
      refine br_f (by rw [e64]; exact nI_ge (by omega) (by omega)) (ev_freeFrom h hb ?_)
      -- onwards from b with what is best then
      have next : ∀ (r' : Option Nat) (size' : Nat), (∀ b', b < b' → (b' ≤ b + ev_rl (ev_Fo ya) b ∨ b' = b + 1) → ev_shI (ev_Fo ya) g least b' r' size') →
          wY_shortest_52 post (wY_shortest_12 post (nI g) (nI least) yk yf yl ya yi ym yz (d + 1)) (nI g) (nI least) (ev_o r') (nI size') (nI b) (nI (ev_rl (ev_Fo ya) b)) yk yf yl ya yi ym yz := by
        intro r' size' hI'
        by_cases c0 : ev_rl (ev_Fo ya) b = 0
        · rw [c0] at m3
          have hf : ev_Fo ya b = false := m3.resolve_left (by omega)
          refine br_t (by rw [c0]; rfl) (fun y ey => ?_)
          rw [nI_1] at ey
          subst ey
          exact ih (b + 1) r' size' (by omega) (by omega) (by omega) (Or.inr (Or.inl (by rw [Nat.add_sub_cancel]; exact hf))) (hI' (b + 1) (by omega) (Or.inr rfl))
        · refine br_f (nI_ne0 (by omega) (by omega)) (fun y ey => ?_)
          rw [nI_add] at ey
          subst ey
          refine ih (b + ev_rl (ev_Fo ya) b) r' size' (by omega) (by omega) (by omega) ?_ (hI' _ (by omega) (Or.inl (Nat.le_refl _)))
          rcases m3 with e | e
          · left; omega
          · right; right; exact e
      -- b itself, if its run is long enough
      have stb : 1 ≤ ev_rl (ev_Fo ya) b → ev_st (ev_Fo ya) b := by
        intro hp
        have hf : ev_Fo ya b = true := m1 0 (by omega)
        refine ⟨hb, hf, ?_⟩
        rcases hst with e | e | e
        · exact Or.inl e
        · exact Or.inr e
        · rw [hf] at e; simp at e
      -- no start lies behind b within its run
      have inrun : ∀ b' s', b < b' → (b' ≤ b + ev_rl (ev_Fo ya) b ∨ b' = b + 1) → ev_st (ev_Fo ya) s' → s' / 64 = g → s' < b' → s' < b ∨ s' = b := by
        intro b' s' hb1 hb2 hs' hg' hlt
        by_cases c : s' ≤ b
        · omega
        · exfalso
          rcases hb2 with hb2 | hb2
          · rcases hs'.2.2 with e | e
            · omega
            · have := m1 (s' - 1 - b) (by omega)
              rw [show b + (s' - 1 - b) = s' - 1 from by omega, e] at this
              simp at this
          · omega
      have keep : ∀ (hno : ev_shC (ev_Fo ya) g least b → match r with | none => False | some s => ev_ky s (ev_rl (ev_Fo ya) s) ≤ ev_ky b (ev_rl (ev_Fo ya) b)), ∀ b', b < b' → (b' ≤ b + ev_rl (ev_Fo ya) b ∨ b' = b + 1) → ev_shI (ev_Fo ya) g least b' r size := by
        intro hno b' hb1 hb2
        cases r with
        | none =>
          refine ⟨hI.1, fun s' hs' hlt => ?_⟩
          rcases inrun b' s' hb1 hb2 hs'.1 hs'.2.1 hlt with q | q
          · exact hI.2 s' hs' q
          · subst q; exact hno hs'
        | some s =>
          obtain ⟨i0, i1, i2, i3⟩ := hI
          refine ⟨i0, i1, by omega, fun s' hs' hlt => ?_⟩
          rcases inrun b' s' hb1 hb2 hs'.1 hs'.2.1 hlt with q | q
          · exact i3 s' hs' q
          · subst q; exact hno hs'
      have size65 : size < 2 ^ 31 := by
        cases r with
        | none => have := hI.1; omega
        | some s => have := hI.1; have := ev_rl_le (ev_Fo ya) s; omega
      by_cases c1 : ev_rl (ev_Fo ya) b < least
      · refine br_t (nI_lt c1 (by omega)) (next r size (keep (fun q => ?_)))
        have := q.2.2
        omega
      · refine br_f (nI_nlt (by omega) (by omega)) ?_
        by_cases c2 : size ≤ ev_rl (ev_Fo ya) b
        · refine br_t (nI_le c2 (by omega)) (next r size (keep (fun q => ?_)))
          cases r with
          | none => have := hI.1; omega
          | some s =>
            obtain ⟨i0, i1, i2, i3⟩ := hI
            have := i1.2.1
            have := q.2.1
            unfold ev_ky
            omega
        · refine br_f (nI_ge (by omega) (by omega)) ?_
          have sc : ev_shC (ev_Fo ya) g least b := ⟨stb (by omega), by omega, by omega⟩
          refine next (some b) (ev_rl (ev_Fo ya) b) (fun b' hb1 hb2 => ⟨rfl, sc, by omega, fun s' hs' hlt => ?_⟩)
          rcases inrun b' s' hb1 hb2 hs'.1 hs'.2.1 hlt with q | q
          · cases r with
            | none => exact absurd q (fun q => hI.2 s' hs' q)
            | some s =>
              obtain ⟨i0, i1, i2, i3⟩ := hI
              have a := i3 s' hs' q
              have b1 := i1.2.1
              have b2 := hs'.2.1
              exact ev_ky_le3 sc.2.1 b1 b2 hb (by omega) a
          · rw [q]; exact Nat.le_refl _
theorem ev_shortest {post : Int32 → Prop} {g least : Nat} (h : ev_ct ya ym) (hg : g < 3) (hl1 : 1 ≤ least) (hl : least ≤ 64)
    (H : ∀ r, (∀ s, r = some s → ev_shM (ev_Fo ya) g least s) → (r = none → ∀ s, ¬ ev_shC (ev_Fo ya) g least s) → post (ev_o r)) : wpY_shortest post (yk, yf, yl, ya, yi, ym, yz) (nI g) (nI least) := by
  intro x ex
  have ex' : x = nI (64 * g) := by rw [ex]; exact pk_mul 64 g
  subst ex'
  exact Exists.intro 65 (ev_shortest12 h hg hl1 hl H 64 (64 * g) none 65 (by omega) (by omega) (by omega) (Or.inl (by omega)) ⟨rfl, fun s' hs' hlt => by have := hs'.2.1; omega⟩)
theorem ev_find125 {post : SY → Prop} (h : ev_ct ya ym) (hfree : 0 < ev_cn (ev_Fo ya) 192) (H : ∀ s, ev_loM (ev_Fo ya) s → post (yk, nI s, nI (ev_rl (ev_Fo ya) s), ya, yi, ym, yz)) :
    ∀ (d b m s : Nat) (yf : Int32), b + d = 192 → m ≤ 64 → (∀ x, x < b → ev_rl (ev_Fo ya) x ≤ m) → (m = 0 ∨ (yf = nI s ∧ s < b ∧ ev_rl (ev_Fo ya) s = m ∧ ∀ x, x < b → ev_rl (ev_Fo ya) x = m → s ≤ x)) →
    wY_find_125 post yk ya yi ym yz (d + 1) (nI b) yf (nI m) := by
  intro d
  induction d with
  | zero =>
    intro b m s yf hb hm h1 h2
    have : b = 192 := by omega
    subst this
    refine br_t (nI_le (a := 192) (Nat.le_refl _) (by omega)) ?_
    obtain ⟨s0, hs0⟩ := ev_free_st hfree
    have hp := ev_rl_pos hs0.2.1
    have hm0 := h1 s0 hs0.1
    obtain ⟨e1, e2, e3, e4⟩ := h2.resolve_left (by omega)
    rw [e1, ← e3]
    obtain ⟨m1, m2, m3⟩ := ev_rl_ok (ev_Fo ya) s
    refine H s ⟨⟨e2, m1 0 (by omega), ?_⟩, fun s' hs' => ?_⟩
    · by_cases c : s % 64 = 0
      · exact Or.inl c
      · right
        refine ev_nt (fun hf => ?_)
        have q : ev_rl (ev_Fo ya) (s - 1) = ev_rl (ev_Fo ya) s + 1 := by
          refine ev_rl_e ⟨fun j hj => ?_, by omega, ?_⟩
          · by_cases e : j = 0
            · rw [e]; exact hf
            · have := m1 (j - 1) (by omega)
              rw [show s + (j - 1) = s - 1 + j from by omega] at this
              exact this
          · rcases m3 with e | e
            · left; omega
            · right; rw [show s - 1 + (ev_rl (ev_Fo ya) s + 1) = s + ev_rl (ev_Fo ya) s from by omega]; exact e
        have := h1 (s - 1) (by omega)
        omega
    · rw [e3]
      exact ⟨h1 s' hs'.1, fun e => e4 s' hs'.1 e⟩
  | succ d ih =>
    intro b m s yf hb hm h1 h2
    have l64 := ev_rl_le (ev_Fo ya) b
    refine br_f (nI_ge (b := 192) (by omega) (by omega)) (ev_freeFrom h (by omega) ?_)
    by_cases c : m < ev_rl (ev_Fo ya) b
    · refine br_t (nI_lt c (by omega)) (ev_freeFrom h (by omega) (fun y ey => ?_))
      rw [nI_1] at ey
      subst ey
      refine ih (b + 1) (ev_rl (ev_Fo ya) b) b (nI b) (by omega) l64 (fun x hx => ?_) (Or.inr ⟨rfl, by omega, rfl, fun x hx e => ?_⟩)
      · by_cases e : x = b
        · rw [e]; exact Nat.le_refl _
        · have := h1 x (by omega); omega
      · by_cases e2 : x = b
        · omega
        · have := h1 x (by omega); omega
    · refine br_f (nI_nlt (by omega) (by omega)) (fun y ey => ?_)
      rw [nI_1] at ey
      subst ey
      refine ih (b + 1) m s yf (by omega) hm (fun x hx => ?_) ?_
      · by_cases e : x = b
        · rw [e]; omega
        · exact h1 x (by omega)
      · rcases h2 with e | ⟨e1, e2, e3, e4⟩
        · exact Or.inl e
        · refine Or.inr ⟨e1, by omega, e3, fun x hx e => ?_⟩
          by_cases e5 : x = b
          · omega
          · exact e4 x (by omega) e
theorem ev_find77 {post : SY → Prop} {file left : Nat} (h : ev_ct ya ym) (hf8 : file < 8) (hl1 : 1 ≤ left) (hl : left ≤ 64) (hfree : 0 < ev_cn (ev_Fo ya) 192)
    (H1 : ∀ k s, k < 3 → (∀ k', k' < k → ∀ s', ¬ ev_shC (ev_Fo ya) ((file + k') % 3) left s') → ev_shM (ev_Fo ya) ((file + k) % 3) left s → post (yk, nI s, nI left, ya, yi, ym, yz))
    (H2 : ∀ s, (∀ k, k < 3 → ∀ s', ¬ ev_shC (ev_Fo ya) ((file + k) % 3) left s') → ev_loM (ev_Fo ya) s → post (yk, nI s, nI (ev_rl (ev_Fo ya) s), ya, yi, ym, yz)) :
    ∀ (d k : Nat) (yf yl : Int32), k + d = 3 → (∀ k', k' < k → ∀ s', ¬ ev_shC (ev_Fo ya) ((file + k') % 3) left s') → wY_find_77 post (nI file) (nI left) yk ya yi ym yz (d + 1) (nI k) yf yl := by
  intro d
  induction d with
  | zero =>
    intro k yf yl hk hno
    have : k = 3 := by omega
    subst this
    refine br_t (nI_le (a := 3) (Nat.le_refl _) (by omega)) (Exists.intro 193 ?_)
    exact ev_find125 h hfree (fun s hs => H2 s hno hs) 192 0 0 0 yf (by omega) (by omega) (fun x hx => absurd hx (Nat.not_lt_zero _)) (Or.inl rfl)
  | succ d ih =>
    intro k yf yl hk hno
    refine br_f (nI_ge (b := 3) (by omega) (by omega)) ⟨by decide, ?_⟩
    have e3 : (nI file + nI k) - (nI file + nI k) / 3 * 3 = nI ((file + k) % 3) := by
      rw [nI_add]
      exact pk_rem (d := 3) (by omega) (by omega) (by omega)
    rw [e3]
    refine ev_shortest h (Nat.mod_lt _ (by omega)) hl1 hl (fun r hs hn => ?_)
    cases r with
    | none =>
      refine br_t (show (-1 : Int32) < 0 by decide) (fun y ey => ?_)
      rw [nI_1] at ey
      subst ey
      refine ih (k + 1) _ _ (by omega) (fun k' hk' => ?_)
      by_cases e : k' = k
      · rw [e]; exact hn rfl
      · exact hno k' (by omega)
    | some s =>
      have := (hs s rfl).1.1.1
      exact br_f (show ¬ nI s < 0 from nI_pos (by omega)) (H1 k s (by omega) hno (hs s rfl))
theorem ev_find {post : SY → Prop} {file left : Nat} {bef : Option Nat} (g : ev_gd ya) (hf8 : file < 8) (hl1 : 1 ≤ left) (hl : left ≤ 64) (hbef : ∀ b, bef = some b → b < 192) (hfree : 0 < ev_cn (ev_Fo ya) 192)
    (H : ∀ s m ym', ev_ct ya ym' → ev_SK (ev_Fo ya) file bef left s m → post (yk, nI s, nI m, ya, yi, ym', yz)) :
    wpY_find post (yk, yf, yl, ya, yi, ym, yz) (nI file) (ev_o bef) (nI left) := by
  refine ev_count g (fun ym' h => ?_)
  have h : ev_ct ya ym' := h
  intro x4 e4
  have main : (∀ p, ¬ ev_ad (ev_Fo ya) bef p) → ∃ n77, wY_find_77 post (nI file) (nI left) yk ya yi ym' yz n77 0 yf yl := by
    intro hna
    exact ⟨4, ev_find77 h hf8 hl1 hl hfree (fun k s k3 kn km => H s left ym' h (Or.inr ⟨hna, Or.inl ⟨k, k3, kn, km, rfl⟩⟩)) (fun s kn km => H s _ ym' h (Or.inr ⟨hna, Or.inr ⟨kn, km, rfl⟩⟩)) 3 0 yf yl (by omega) (fun k' hk' => absurd hk' (Nat.not_lt_zero _))⟩
  cases bef with
  | none =>
    refine br_t (show (-1 : Int32) < 0 by decide) (main (fun p hp => ?_))
    obtain ⟨b, e, _⟩ := hp
    simp at e
  | some b =>
    have hb := hbef b rfl
    have e4' : x4 = nI (b + 1) := by rw [e4]; exact nI_1 b
    subst e4'
    refine br_f (show ¬ nI b < 0 from nI_pos (by omega)) ?_
    by_cases c192 : b + 1 = 192
    · refine br_t (nI_le (a := 192) (by omega) (by omega)) (main (fun p hp => ?_))
      obtain ⟨b', e, e2, e3, _⟩ := hp
      have : b = b' := by simpa using e
      subst this
      omega
    · refine br_f (nI_ge (b := 192) (by omega) (by omega)) ⟨by decide, by decide, ?_⟩
      show (nI (b + 1) / 64 = nI b / 64 → _) ∧ (¬ nI (b + 1) / 64 = nI b / 64 → _)
      rw [ev_d64 (by omega), ev_d64 (by omega)]
      by_cases c : (b + 1) / 64 = b / 64
      · refine br_t (by rw [c]) ⟨vp_in_nI (by omega) (by omega), ?_⟩
        refine ev_ct0 h (by omega) (fun hF => ?_) (fun hF => main (fun p hp => ?_))
        · have had : ev_ad (ev_Fo ya) (some b) (b + 1) := ⟨b, rfl, rfl, by omega, hF⟩
          have l64 := ev_rl_le (ev_Fo ya) (b + 1)
          refine ev_freeFrom h (by omega) ?_
          by_cases c3 : left ≤ ev_rl (ev_Fo ya) (b + 1)
          · refine br_t (nI_le c3 (by omega)) (H (b + 1) left ym' h (Or.inl ⟨had, ?_⟩))
            split <;> omega
          · refine br_f (nI_ge (by omega) (by omega)) (ev_freeFrom h (by omega) (H (b + 1) _ ym' h (Or.inl ⟨had, ?_⟩)))
            rw [if_pos (by omega)]
        · obtain ⟨b', e, e2, e3, e4⟩ := hp
          have : b = b' := by simpa using e
          subst this
          rw [e2, hF] at e4
          simp at e4
      · refine br_f (fun e => c ((nI_eq (by omega) (by omega)).mp e)) (main (fun p hp => ?_))
        obtain ⟨b', e, e2, e3, _⟩ := hp
        have : b = b' := by simpa using e
        subst this
        omega
end
end
section
/-! pieces laid down in a row: the pure tables -/
def ev_pt (pc : Nat → Int32) (k s : Nat) : Nat → Nat → Int32
  | 0 => pc
  | j + 1 => upd (ev_pt pc k s j) (k + j) (nI (s + j))
def ev_iy (al : Bool) (pc it : Nat → Int32) (k s : Nat) : Nat → Nat → Int32
  | 0 => it
  | j + 1 => if al = true ∧ ¬ pc (k + j) < 0 then upd (ev_iy al pc it k s j) (s + j) ((ev_iy al pc it k s j) (pc (k + j)).toNatClampNeg) else ev_iy al pc it k s j
theorem ev_sm {a b N : Nat} (h : a < N) (e : some a = some b) : b < N := by cases e; exact h
theorem ev_gd_free {pc : Nat → Int32} {k b : Nat} (g : ev_gd pc) (hk : k < 512) (hb : b < 192) (hF : ev_Fo pc b = true) : ev_gd (upd pc k (nI b)) := by
  have h0 := ev_cu0.mp (ev_Fo_t.mp hF)
  refine ⟨fun j hj => ?_, fun j j' x hj hj' hx e1 e2 => ?_, fun j hj => ?_⟩
  · by_cases c : j = k
    · exact ⟨some b, by rw [c, pk_us]; rfl, fun b' e => ev_sm hb e⟩
    · rw [pk_un c]; exact g.1 j hj
  · by_cases c : j = k
    · by_cases c' : j' = k
      · rw [c, c']
      · rw [c, pk_us] at e1
        rw [pk_un c', ← e1] at e2
        exact absurd e2 (h0 j' hj')
    · by_cases c' : j' = k
      · rw [c', pk_us] at e2
        rw [pk_un c, ← e2] at e1
        exact absurd e1 (h0 j hj)
      · rw [pk_un c] at e1
        rw [pk_un c'] at e2
        exact g.2.1 j j' x hj hj' hx e1 e2
  · rw [pk_un (by omega)]; exact g.2.2 j hj
theorem ev_Fo_u {pc : Nat → Int32} {k b x : Nat} (hb : b < 192) (hx : x < 192) (hxb : x ≠ b) (hF : ev_Fo pc x = true) : ev_Fo (upd pc k (nI b)) x = true := by
  have h0 := ev_cu0.mp (ev_Fo_t.mp hF)
  refine ev_Fo_t.mpr (ev_cu0.mpr (fun j hj => ?_))
  by_cases c : j = k
  · rw [c, pk_us]
    intro e
    exact hxb ((nI_eq (by omega) (by omega)).mp e).symm
  · rw [pk_un c]; exact h0 j hj
theorem ev_cn_1 {F F' : Nat → Bool} {b : Nat} : ∀ {n}, (∀ x, x < n → x ≠ b → F x = true → F' x = true) → ev_cn F n ≤ ev_cn F' n + (if b < n then 1 else 0)
  | 0, _ => by simp [ev_cn]
  | n + 1, h => by
      have ih := ev_cn_1 (F := F) (F' := F') (b := b) (n := n) (fun x hx => h x (by omega))
      show ev_cn F n + (if F n = true then 1 else 0) ≤ ev_cn F' n + (if F' n = true then 1 else 0) + _
      by_cases c : n = b
      · subst c
        rw [if_neg (by omega)] at ih
        rw [if_pos (show n < n + 1 by omega)]
        have : (if F n = true then 1 else 0) ≤ 1 := by split <;> omega
        omega
      · have e : (if b < n + 1 then 1 else 0) = (if b < n then 1 else 0) := by
          by_cases c2 : b < n
          · rw [if_pos c2, if_pos (by omega)]
          · rw [if_neg c2, if_neg (by omega)]
        rw [e]
        by_cases c3 : F n = true
        · rw [if_pos c3, if_pos (h n (by omega) c c3)]; omega
        · rw [if_neg c3]; omega
theorem ev_pt_ok {pc : Nat → Int32} {k s m : Nat} (g : ev_gd pc) (hk : k + m ≤ 512) (hs : s + m ≤ 192) (hF : ∀ j, j < m → ev_Fo pc (s + j) = true) :
    ∀ j, j ≤ m → ev_gd (ev_pt pc k s j) ∧ (∀ i, j ≤ i → i < m → ev_Fo (ev_pt pc k s j) (s + i) = true) ∧ (∀ x, x < k ∨ k + j ≤ x → ev_pt pc k s j x = pc x) ∧ (∀ i, i < j → ev_pt pc k s j (k + i) = nI (s + i)) ∧ ev_cn (ev_Fo pc) 192 ≤ ev_cn (ev_Fo (ev_pt pc k s j)) 192 + j
  | 0, _ => ⟨g, fun i _ hi => hF i hi, fun _ _ => rfl, fun i hi => absurd hi (Nat.not_lt_zero _), Nat.le_refl _⟩
  | j + 1, hj => by
      obtain ⟨a1, a2, a3, a4, a5⟩ := ev_pt_ok g hk hs hF j (by omega)
      have e : ev_pt pc k s (j + 1) = upd (ev_pt pc k s j) (k + j) (nI (s + j)) := rfl
      rw [e]
      refine ⟨ev_gd_free a1 (by omega) (by omega) (a2 j (Nat.le_refl _) (by omega)), fun i hi hi2 => ev_Fo_u (by omega) (by omega) (by omega) (a2 i (by omega) hi2), fun x hx => ?_, fun i hi => ?_, ?_⟩
      · rw [pk_un (by omega)]; exact a3 x (by omega)
      · by_cases c : i = j
        · rw [c, pk_us]
        · rw [pk_un (by omega)]; exact a4 i (by omega)
      · have := ev_cn_1 (F := ev_Fo (ev_pt pc k s j)) (F' := ev_Fo (upd (ev_pt pc k s j) (k + j) (nI (s + j)))) (b := s + j) (n := 192) (fun x hx hxb hf => ev_Fo_u (by omega) hx hxb hf)
        rw [if_pos (by omega)] at this
        omega
theorem ev_iy_f (pc it : Nat → Int32) (k s : Nat) : ∀ j, ev_iy false pc it k s j = it
  | 0 => rfl
  | j + 1 => by
      show (if false = true ∧ _ then _ else _) = it
      rw [if_neg (fun h => by simp at h)]
      exact ev_iy_f pc it k s j
theorem ev_iy_out {al : Bool} {pc it : Nat → Int32} {k s b : Nat} : ∀ {j}, (∀ i, i < j → b ≠ s + i) → ev_iy al pc it k s j b = it b
  | 0, _ => rfl
  | j + 1, h => by
      have ih := ev_iy_out (al := al) (pc := pc) (it := it) (k := k) (s := s) (b := b) (j := j) (fun i hi => h i (by omega))
      show (if al = true ∧ ¬ pc (k + j) < 0 then upd (ev_iy al pc it k s j) (s + j) _ else ev_iy al pc it k s j) b = it b
      split
      · rw [pk_un (h j (by omega))]; exact ih
      · exact ih
section
variable {fb sp dp kp lg ls fd mn : Int32} {pc us it ln ks bl sz lf nx pv sr rt pa wy oa ov bg : Nat → Int32}
theorem ev_lay39 {post : SX → Prop} {J : Int32 → Int32 → Int32 → Int32 → Int32 → Int32 → Int32 → Int32 → Int32 → Int32 → (Nat → Int32) → (Nat → Int32) → (Nat → Int32) → (Nat → Int32) → (Nat → Int32) → (Nat → Int32) → (Nat → Int32) → (Nat → Int32) → (Nat → Int32) → (Nat → Int32) → (Nat → Int32) → (Nat → Int32) → (Nat → Int32) → (Nat → Int32) → (Nat → Int32) → (Nat → Int32) → (Nat → Int32) → Prop}
    {al : Bool} {x1 x3 : Int32} {k s m g0 g cl : Nat} {HP HI : Nat → Nat → Int32} (gp : ev_gd pc) (hk : k + m ≤ 512) (hm : 1 ≤ m) (hs : s + m ≤ 192) (hF : ∀ j, j < m → ev_Fo pc (s + j) = true) (hal : al = true → ∀ j, j < m → ¬ pc (k + j) = -1) (hcl : cl = if al = true then 2 else 1) (hg : g + m * cl ≤ 560)
    (HJ : ∀ oa' ov' fb' us' ln' sp' dp' ks' bl' sz' lf' nx' pv' sr' rt' pa' wy', ev_LX g0 HP HI (g + m * cl) (ev_pt pc k s m) (ev_iy al pc it k s m) oa' ov' → ev_PX (ev_pt pc k s m) fb' us' ln' sp' ks' bl' sz' lf' nx' pv' sr' rt' → J (nI (s + m - 1)) (nI (k + m)) fb' sp' dp' kp (nI (g + m * cl)) 1 fd mn (ev_pt pc k s m) us' (ev_iy al pc it k s m) ln' ks' bl' sz' lf' nx' pv' sr' rt' pa' wy' oa' ov' bg) :
    ∀ (r j : Nat) (fb : Int32) (us ln : Nat → Int32) (sp dp : Int32) (ks bl sz lf nx pv sr rt pa wy oa ov : Nat → Int32), j + r = m → ev_LX g0 HP HI (g + j * cl) (ev_pt pc k s j) (ev_iy al pc it k s j) oa ov → ev_PX (ev_pt pc k s j) fb us ln sp ks bl sz lf nx pv sr rt →
    wX_lay_39 post J x1 x3 (if al = true then 1 else 0) (nI s) (nI m) (r + 1) (nI (k + j)) (nI j) fb sp dp kp (nI (g + j * cl)) 1 fd mn (ev_pt pc k s j) us (ev_iy al pc it k s j) ln ks bl sz lf nx pv sr rt pa wy oa ov bg := by
  intro r
  induction r with
  | zero =>
    intro j fb us ln sp dp ks bl sz lf nx pv sr rt pa wy oa ov hj L P
    have : j = m := by omega
    subst this
    refine br_t (nI_le (Nat.le_refl _) (by omega)) (fun y ey => ?_)
    have ey' : y = nI (s + j - 1) := by
      rw [ey, nI_add, show s + j = (s + j - 1) + 1 from by omega, nI_pred, Nat.add_sub_cancel]
    subst ey'
    exact HJ oa ov fb us ln sp dp ks bl sz lf nx pv sr rt pa wy L P
  | succ r ih =>
    intro j fb us ln sp dp ks bl sz lf nx pv sr rt pa wy oa ov hj L P
    obtain ⟨a1, a2, a3, a4, a5⟩ := ev_pt_ok gp hk hs hF j (by omega)
    obtain ⟨b1, _⟩ := ev_pt_ok gp hk hs hF (j + 1) (by omega)
    have old : ev_pt pc k s j (k + j) = pc (k + j) := a3 (k + j) (by omega)
    have hmul : (j + 1) * cl = j * cl + cl := Nat.succ_mul j cl
    have hle : (j + 1) * cl ≤ m * cl := Nat.mul_le_mul_right _ (by omega)
    refine br_f (nI_ge (by omega) (by omega)) ?_
    cases al with
    | false =>
      have ecl : cl = 1 := by rw [hcl, if_neg (by simp)]
      refine br_t (by simp) ?_
      show wpX_put _ _ (nI (k + j)) (nI s + nI j)
      rw [nI_add]
      refine ev_putL (o := some (s + j)) (g := g + j * cl) P L (by omega) (by omega) (fun b e => ev_sm (by omega) e) b1 (fun oa' ov' fb' us' ln' sp' dp' ks' bl' sz' lf' nx' pv' sr' rt' pa' wy' L' P' => ?_)
      refine br_t (by simp) (fun x7 e7 x10 e10 => ?_)
      rw [nI_1] at e7 e10
      subst e7
      subst e10
      have ei : ev_iy false pc it k s (j + 1) = ev_iy false pc it k s j := by rw [ev_iy_f, ev_iy_f]
      have eg : g + j * cl + 1 = g + (j + 1) * cl := by rw [hmul]; omega
      have := ih (j + 1) fb' us' ln' sp' dp' ks' bl' sz' lf' nx' pv' sr' rt' pa' wy' oa' ov' (by omega) (by rw [ei, ← eg]; exact L') P'
      rw [ei, ← eg] at this
      exact this
    | true =>
      have ecl : cl = 2 := by rw [hcl, if_pos rfl]
      obtain ⟨o, ho, hob⟩ := gp.1 (k + j) (by omega)
      cases o with
      | none => exact absurd ho (hal rfl j (by omega))
      | some b =>
        have hb := hob b rfl
        have hpo : pc (k + j) = nI b := ho
        refine br_f (by simp) ⟨vp_in_nI (by omega) (by omega), ?_⟩
        rw [nI_clamp (show k + j < 2 ^ 31 by omega), old, hpo]
        refine ⟨vp_in_nI hb (by omega), ?_⟩
        rw [nI_clamp (show b < 2 ^ 31 by omega)]
        show wpX_put _ _ (nI (k + j)) (nI s + nI j)
        rw [nI_add]
        refine ev_putL (o := some (s + j)) (g := g + j * cl) P L (by omega) (by omega) (fun b e => ev_sm (by omega) e) b1 (fun oa' ov' fb' us' ln' sp' dp' ks' bl' sz' lf' nx' pv' sr' rt' pa' wy' L' P' => ?_)
        refine br_f (by simp) ?_
        refine ev_fillL L' b1 (by omega) (by omega) (fun oa2 ov2 L2 => ?_)
        intro x7 e7 x10 e10
        rw [nI_1] at e7 e10
        subst e7
        subst e10
        have ei : ev_iy true pc it k s (j + 1) = upd (ev_iy true pc it k s j) (s + j) (ev_iy true pc it k s j b) := by
          show (if true = true ∧ ¬ pc (k + j) < 0 then upd (ev_iy true pc it k s j) (s + j) ((ev_iy true pc it k s j) (pc (k + j)).toNatClampNeg) else _) = _
          rw [if_pos ⟨rfl, by rw [hpo]; exact nI_pos (by omega)⟩, hpo, nI_clamp (by omega)]
        have eg : g + j * cl + 1 + 1 = g + (j + 1) * cl := by rw [hmul]; omega
        have := ih (j + 1) fb' us' ln' sp' dp' ks' bl' sz' lf' nx' pv' sr' rt' pa' wy' oa2 ov2 (by omega) (by rw [ei, ← eg]; exact L2) P'
        rw [ei, ← eg] at this
        exact this
end
section
variable {yk yf yl : Int32} {ya yi ym yz : Nat → Int32}
theorem ev_put63 {post : SY → Prop} {J : Int32 → Int32 → Int32 → Int32 → Int32 → (Nat → Int32) → (Nat → Int32) → (Nat → Int32) → (Nat → Int32) → Prop} {file from_ done k s m : Nat} {x3 : Int32} (gp : ev_gd ya) (hkk : 64 * file + from_ + done = k) (hk : k + m ≤ 512) (hm : 1 ≤ m) (hs : s + m ≤ 192) (hF : ∀ j, j < m → ev_Fo ya (s + j) = true)
    (HJ : J (nI (done + m)) (nI (s + m - 1)) yk yf yl (ev_pt ya k s m) (ev_iy true ya yi k s m) ym yz) :
    ∀ (r j : Nat), j + r = m → wY_putDown_63 post J (nI file) (nI from_) x3 (nI done) (nI s) (nI m) yk yf yl (r + 1) (nI j) (ev_pt ya k s j) (ev_iy true ya yi k s j) ym yz := by
  intro r
  induction r with
  | zero =>
    intro j hj
    have : j = m := by omega
    subst this
    refine br_t (nI_le (Nat.le_refl _) (by omega)) (fun x ex y ey => ?_)
    rw [nI_add] at ex
    have ey' : y = nI (s + j - 1) := by
      rw [ey, nI_add, show s + j = (s + j - 1) + 1 from by omega, nI_pred, Nat.add_sub_cancel]
    subst ex
    subst ey'
    exact HJ
  | succ r ih =>
    intro j hj
    obtain ⟨a1, a2, a3, a4, a5⟩ := ev_pt_ok gp hk hs hF j (by omega)
    have old : ev_pt ya k s j (k + j) = ya (k + j) := a3 (k + j) (by omega)
    refine br_f (nI_ge (by omega) (by omega)) (fun x ex => ?_)
    have ex' : x = nI (k + j) := by
      rw [ex]
      show nI 64 * nI file + nI from_ + nI done + nI j = _
      rw [pk_mul, nI_add, nI_add, nI_add, hkk]
    subst ex'
    refine ⟨vp_in_nI (by omega) (by omega), fun y ey => ⟨vp_in_nI (by omega) (by omega), fun a ea => ?_⟩⟩
    rw [nI_clamp (by omega), old] at ey
    rw [nI_clamp (by omega), nI_add] at ea
    have ea' : a = ev_pt ya k s (j + 1) := ea
    subst ea'
    obtain ⟨o, ho, hob⟩ := gp.1 (k + j) (by omega)
    rw [ho] at ey
    subst ey
    cases o with
    | none =>
      refine br_t (show (-1 : Int32) < 0 by decide) (fun z ez => ?_)
      rw [nI_1] at ez
      subst ez
      have ei : ev_iy true ya yi k s (j + 1) = ev_iy true ya yi k s j := by
        show (if true = true ∧ ¬ ya (k + j) < 0 then _ else ev_iy true ya yi k s j) = _
        rw [if_neg (fun h => h.2 (by rw [ho]; decide))]
      have := ih (j + 1) (by omega)
      rw [ei] at this
      exact this
    | some b =>
      have hb := hob b rfl
      have hpo : ya (k + j) = nI b := ho
      refine br_f (show ¬ nI b < 0 from nI_pos (by omega)) ⟨vp_in_nI hb (by omega), ?_⟩
      rw [nI_add]
      refine ⟨vp_in_nI (by omega) (by omega), fun i ei2 z ez => ?_⟩
      rw [nI_1] at ez
      subst ez
      rw [nI_clamp (by omega), show (ev_o (some b)).toNatClampNeg = b from nI_clamp (by omega)] at ei2
      have ei : ev_iy true ya yi k s (j + 1) = i := by
        show (if true = true ∧ ¬ ya (k + j) < 0 then upd (ev_iy true ya yi k s j) (s + j) ((ev_iy true ya yi k s j) (ya (k + j)).toNatClampNeg) else _) = _
        rw [if_pos ⟨rfl, by rw [hpo]; exact nI_pos (by omega)⟩, hpo, nI_clamp (by omega), ei2]
      have := ih (j + 1) (by omega)
      rw [ei] at this
      exact this
end
end
section
/-! lay and putDown in lockstep: one outcome for both -/
def ev_layX (al : Bool) (file e n7 k : Nat) (bef : Option Nat) (pc it pcF itF : Nat → Int32) : Prop :=
  ∀ (post : SX → Prop) (g0 g : Nat) (HP HI : Nat → Nat → Int32) (fb sp dp kp fd mn : Int32) (us ln ks bl sz lf nx pv sr rt pa wy oa ov bg : Nat → Int32),
    ev_PX pc fb us ln sp ks bl sz lf nx pv sr rt → ev_LX g0 HP HI g pc it oa ov → g + (e - k) * (if al = true then 2 else 1) ≤ 560 →
    (∀ fd' mn' oa' ov' fb' us' ln' sp' dp' ks' bl' sz' lf' nx' pv' sr' rt' pa' wy', ev_LX g0 HP HI (g + (e - k) * (if al = true then 2 else 1)) pcF itF oa' ov' → ev_PX pcF fb' us' ln' sp' ks' bl' sz' lf' nx' pv' sr' rt' → post (fb', sp', dp', kp, nI (g + (e - k) * (if al = true then 2 else 1)), 1, fd', mn', pcF, us', itF, ln', ks', bl', sz', lf', nx', pv', sr', rt', pa', wy', oa', ov', bg)) →
    wX_lay_7 post (nI file) (nI e) (if al = true then 1 else 0) n7 (ev_o bef) (nI k) fb sp dp kp (nI g) 1 fd mn pc us it ln ks bl sz lf nx pv sr rt pa wy oa ov bg
def ev_layY (file e n31 k : Nat) (bef : Option Nat) (ya yi yaF yiF : Nat → Int32) : Prop :=
  ∀ (post : SY → Prop) (from_ n done : Nat) (yk yf yl : Int32) (ym yz : Nat → Int32), 64 * file + from_ + done = k → 64 * file + from_ + n = e →
    (∀ yf' yl' ym', post (yk, yf', yl', yaF, yiF, ym', yz)) → wY_putDown_31 post (nI file) (nI from_) (nI n) n31 (nI done) (ev_o bef) yk yf yl ya yi ym yz
/-- what is known of a table F made out of pc by laying down pieces k to before e -/
def ev_laid (k e : Nat) (pc pcF : Nat → Int32) : Prop :=
  ev_gd pcF ∧ (∀ j, j < k ∨ e ≤ j → pcF j = pc j) ∧ (∀ j, k ≤ j → j < e → ∃ b, b < 192 ∧ pcF j = nI b ∧ ∀ j', j' < 512 → (j' < k ∨ e ≤ j') → pc j' ≠ nI b) ∧ ev_cn (ev_Fo pc) 192 ≤ ev_cn (ev_Fo pcF) 192 + (e - k)
theorem ev_lay {al : Bool} {file e : Nat} (hf : file < 8) (he : e ≤ 512) :
    ∀ (d k : Nat) (bef : Option Nat) (pc itX itY : Nat → Int32), e ≤ k + d → k ≤ e → e - k ≤ 64 → ev_gd pc → (∀ b, bef = some b → b < 192) → e - k ≤ ev_cn (ev_Fo pc) 192 → (al = true → ∀ j, k ≤ j → j < e → ¬ pc j = -1) →
    ∃ pcF itXF itYF, ev_laid k e pc pcF ∧ (al = false → itXF = itX) ∧ (al = true → itX = itY → itXF = itYF) ∧ (∀ b, (192 ≤ b ∨ ∀ j, k ≤ j → j < e → pcF j ≠ nI b) → itYF b = itY b) ∧
      ev_layX al file e (d + 1) k bef pc itX pcF itXF ∧ ev_layY file e (d + 1) k bef pc itY pcF itYF := by
  intro d
  induction d with
  | zero =>
    intro k bef pc itX itY h1 h2 h3 g hb hc hal
    have hk : k = e := by omega
    subst hk
    refine ⟨pc, itX, itY, ⟨g, fun _ _ => rfl, fun j h1 h2 => by omega, by omega⟩, fun _ => rfl, fun _ q => q, fun _ _ => rfl, ?_, ?_⟩
    · intro post g0 g' HP HI fb sp dp kp fd mn us ln ks bl sz lf nx pv sr rt pa wy oa ov bg P L _ H
      rw [Nat.sub_self, Nat.zero_mul] at H
      exact br_t (nI_le (Nat.le_refl _) (by omega)) (H fd mn oa ov fb us ln sp dp ks bl sz lf nx pv sr rt pa wy L P)
    · intro post from_ n done yk yf yl ym yz e1 e2 H
      have : n = done := by omega
      subst this
      exact br_t (nI_le (Nat.le_refl _) (by omega)) (H yf yl ym)
  | succ d ih =>
    intro k bef pc itX itY h1 h2 h3 g hb hc hal
    by_cases hk : k = e
    · subst hk
      refine ⟨pc, itX, itY, ⟨g, fun _ _ => rfl, fun j h1 h2 => by omega, by omega⟩, fun _ => rfl, fun _ q => q, fun _ _ => rfl, ?_, ?_⟩
      · intro post g0 g' HP HI fb sp dp kp fd mn us ln ks bl sz lf nx pv sr rt pa wy oa ov bg P L _ H
        rw [Nat.sub_self, Nat.zero_mul] at H
        exact br_t (nI_le (Nat.le_refl _) (by omega)) (H fd mn oa ov fb us ln sp dp ks bl sz lf nx pv sr rt pa wy L P)
      · intro post from_ n done yk yf yl ym yz e1 e2 H
        have : n = done := by omega
        subst this
        exact br_t (nI_le (Nat.le_refl _) (by omega)) (H yf yl ym)
    · have hlt : k < e := by omega
      obtain ⟨s, m, hSK⟩ := ev_SK_ex (F := ev_Fo pc) (file := file) (left := e - k) (bef := bef) (by omega)
      obtain ⟨m1, m2, m3, m4, m5⟩ := ev_SK_ok hb (by omega) hSK
      have hs : s + m ≤ 192 := by omega
      obtain ⟨a1, a2, a3, a4, a5⟩ := ev_pt_ok (k := k) g (by omega) hs m5 m (Nat.le_refl _)
      obtain ⟨pcF, itXF, itYF, ⟨f1, f2, f3, f4⟩, f5, f6, f7, fX, fY⟩ := ih (k + m) (some (s + m - 1)) (ev_pt pc k s m) (ev_iy al pc itX k s m) (ev_iy true pc itY k s m) (by omega) (by omega) (by omega) a1 (fun b e => ev_sm (by omega) e) (by omega) (fun q j j1 j2 => by rw [a3 j (by omega)]; exact hal q j (by omega) j2)
      refine ⟨pcF, itXF, itYF, ⟨f1, fun j hj => ?_, fun j j1 j2 => ?_, by omega⟩, fun q => ?_, fun q q2 => ?_, fun b q => ?_, ?_, ?_⟩
      · rw [f2 j (by omega), a3 j (by omega)]
      · by_cases c : j < k + m
        · refine ⟨s + (j - k), by omega, ?_, fun j' j1' j2' => ?_⟩
          · rw [f2 j (by omega)]
            have := a4 (j - k) (by omega)
            rw [show k + (j - k) = j from by omega] at this
            exact this
          · exact ev_cu0.mp (ev_Fo_t.mp (m5 (j - k) (by omega))) j' j1'
        · obtain ⟨b, b1, b2, b3⟩ := f3 j (by omega) j2
          refine ⟨b, b1, b2, fun j' j1' j2' => ?_⟩
          have := b3 j' j1' (by omega)
          rw [a3 j' (by omega)] at this
          exact this
      · subst q
        rw [f5 rfl, ev_iy_f]
      · subst q
        subst q2
        exact f6 rfl rfl
      · rw [f7 b (q.imp id (fun w j j1 j2 => w j (by omega) j2))]
        refine ev_iy_out (fun i hi e2 => ?_)
        rcases q with q | q
        · omega
        · have := q (k + i) (by omega) (by omega)
          rw [f2 (k + i) (by omega), a4 i hi, e2] at this
          exact this rfl
      · intro post g0 g' HP HI fb sp dp kp fd mn us ln ks bl sz lf nx pv sr rt pa wy oa ov bg P L hroom H
        have hmul : (e - k) * (if al = true then 2 else 1) = m * (if al = true then 2 else 1) + (e - (k + m)) * (if al = true then 2 else 1) := by
          rw [← Nat.add_mul, show m + (e - (k + m)) = e - k from by omega]
        refine br_f (nI_ge hlt (by omega)) ?_
        show wpX_seek _ _ (nI file) (ev_o bef) (nI e - nI k)
        rw [pk_sub (by omega)]
        refine ev_seek P hf (by omega) h3 hb (by omega) (fun s' m' dp' pa' wy' hSK' => ?_)
        obtain ⟨es, em⟩ := ev_SK_u hSK' hSK
        subst es
        subst em
        refine Exists.intro (m' + 1) ?_
        have := ev_lay39 (post := post) (J := wX_lay_7 post (nI file) (nI e) (if al = true then 1 else 0) (d + 1)) (x1 := nI file) (x3 := nI e) (al := al) (k := k) (s := s') (m := m') (g0 := g0) (g := g') (cl := if al = true then 2 else 1) (HP := HP) (HI := HI) (kp := kp) (fd := nI s') (mn := nI m') (bg := bg) (it := itX) g (by omega) m1 hs m5 (fun q j hj => hal q (k + j) (by omega) (by omega)) rfl (by omega)
          (fun oa2 ov2 fb2 us2 ln2 sp2 dp2 ks2 bl2 sz2 lf2 nx2 pv2 sr2 rt2 pa2 wy2 L2 P2 => fX post g0 _ HP HI fb2 sp2 dp2 kp _ _ us2 ln2 ks2 bl2 sz2 lf2 nx2 pv2 sr2 rt2 pa2 wy2 oa2 ov2 bg P2 L2 (by omega) (fun fd3 mn3 oa3 ov3 fb3 us3 ln3 sp3 dp3 ks3 bl3 sz3 lf3 nx3 pv3 sr3 rt3 pa3 wy3 L3 P3 => by
            have eq : g' + m' * (if al = true then 2 else 1) + (e - (k + m')) * (if al = true then 2 else 1) = g' + (e - k) * (if al = true then 2 else 1) := by omega
            rw [eq] at L3 ⊢
            exact H fd3 mn3 oa3 ov3 fb3 us3 ln3 sp3 dp3 ks3 bl3 sz3 lf3 nx3 pv3 sr3 rt3 pa3 wy3 L3 P3))
          m' 0 fb us ln sp dp' ks bl sz lf nx pv sr rt pa' wy' oa ov (by omega) (by rw [Nat.zero_mul]; exact L) P
        rw [Nat.zero_mul] at this
        exact this
      · intro post from_ n done yk yf yl ym yz e1 e2 H
        refine br_f (nI_ge (by omega) (by omega)) ?_
        rw [pk_sub (by omega), show n - done = e - k from by omega]
        refine ev_find g hf (by omega) h3 hb (by omega) (fun s' m' ym' _ hSK' => ?_)
        obtain ⟨es, em⟩ := ev_SK_u hSK' hSK
        subst es
        subst em
        refine Exists.intro (m' + 1) ?_
        exact ev_put63 (k := k) g e1 (by omega) m1 hs m5 (fY post from_ n (done + m') yk _ _ ym' yz (by omega) e2 H) m' 0 (by omega)
end
section
/-! begin and keep: the log and what is put aside -/
def ev_ch (g : Nat) (HP HI : Nat → Nat → Int32) (oa ov : Nat → Int32) : Prop :=
  (∀ j, j < g → ev_bk (oa j) (ov j) (HP j) (HI j) (HP (j + 1)) (HI (j + 1))) ∧ (∀ j, j ≤ g → ev_gd (HP j))
/-- where the changes begin: c of them, the last ending at g -/
def ev_be (c g : Nat) (β : Nat → Nat) : Prop := β 0 = 0 ∧ β c = g ∧ ∀ i, i < c → β i ≤ β (i + 1) ∧ β (i + 1) ≤ β i + 128
/-- what is put aside for a state -/
def ev_as (yz : Nat → Int32) (i : Nat) (p t : Nat → Int32) : Prop := (∀ k, k < 512 → yz (704 * i + k) = p k) ∧ (∀ b, b < 192 → yz (704 * i + 512 + b) = t b)
theorem ev_be_mono {c g : Nat} {β : Nat → Nat} (h : ev_be c g β) : ∀ j i, i ≤ j → j ≤ c → β i ≤ β j
  | 0, i, h1, h2 => by rw [show i = 0 from by omega]; exact Nat.le_refl _
  | j + 1, i, h1, h2 => by
      by_cases e : i = j + 1
      · rw [e]; exact Nat.le_refl _
      · have := ev_be_mono h j i (by omega) (by omega)
        have := (h.2.2 j (by omega)).1
        omega
theorem ev_be_le {c g : Nat} {β : Nat → Nat} (h : ev_be c g β) : ∀ i, i ≤ c → β i ≤ 128 * i
  | 0, _ => by rw [h.1]; exact Nat.zero_le _
  | i + 1, hi => by
      have := ev_be_le h i (by omega)
      have := (h.2.2 i (by omega)).2
      omega
theorem ev_be_sh {c g sh : Nat} {β : Nat → Nat} (h : ev_be c g β) (hs : sh ≤ c) : ev_be (c - sh) (g - β sh) (fun i => β (i + sh) - β sh) := by
  refine ⟨by show β (0 + sh) - β sh = 0; rw [Nat.zero_add]; omega, ?_, fun i hi => ?_⟩
  · show β (c - sh + sh) - β sh = g - β sh
    rw [show c - sh + sh = c from by omega, h.2.1]
  · show β (i + sh) - β sh ≤ β (i + 1 + sh) - β sh ∧ β (i + 1 + sh) - β sh ≤ β (i + sh) - β sh + 128
    have a := h.2.2 (i + sh) (by omega)
    have b := ev_be_mono h (i + sh) sh (by omega) (by omega)
    rw [show i + 1 + sh = i + sh + 1 from by omega]
    omega
theorem ev_bk_s {a v : Int32} {p i p' i' : Nat → Int32} (h : ev_bk a v p i p' i') : ∃ n, n < 704 ∧ a = nI n := by
  rcases h with ⟨k, hk, e, _⟩ | ⟨b, hb, e, _⟩
  · exact ⟨k, by omega, e⟩
  · exact ⟨512 + b, by omega, e⟩
section
variable {fb sp dp kp lg ls fd mn : Int32} {pc us it ln ks bl sz lf nx pv sr rt pa wy oa ov bg : Nat → Int32}
theorem ev_begin104 {post : SX → Prop} {c g : Nat} (hc : c < 4) (hg : g < 1000) (H : ∀ bg', bg' c = nI g → (∀ i, i ≠ c → bg' i = bg i) → post (fb, sp, dp, nI (c + 1), nI g, 1, fd, mn, pc, us, it, ln, ks, bl, sz, lf, nx, pv, sr, rt, pa, wy, oa, ov, bg')) : wX_begin_104 post fb sp dp (nI c) (nI g) ls fd mn pc us it ln ks bl sz lf nx pv sr rt pa wy oa ov bg := by
  intro y ey
  rw [nI_1] at ey
  subst ey
  refine ⟨vp_in_nI hc (by omega), fun b eb => ?_⟩
  rw [nI_clamp (by omega), ev_nss (by omega)] at eb
  exact H b (by rw [eb, pk_us]) (fun i hi => by rw [eb, pk_un hi])
theorem ev_begin71 {post : SX → Prop} {g B : Nat} {β : Nat → Nat} (hg : g < 1000) (hB : ∀ i, i < 4 → B ≤ β (i + 1) ∨ i = 3) (hβ : ∀ i, i < 4 → β i < 1000) (hB2 : ∀ i, i < 3 → B ≤ β (i + 1))
    (H : ∀ bg', (∀ i, i < 3 → bg' i = nI (β (i + 1) - B)) → bg' 3 = nI g → post (fb, sp, dp, nI 4, nI g, 1, fd, mn, pc, us, it, ln, ks, bl, sz, lf, nx, pv, sr, rt, pa, wy, oa, ov, bg')) :
    ∀ (d i : Nat) (bg : Nat → Int32), i + d = 3 → (∀ j, j < i → bg j = nI (β (j + 1) - B)) → (∀ j, i ≤ j → j < 4 → bg j = nI (β j)) → wX_begin_71 post (nI B) fb sp dp (nI 4) (nI g) ls fd mn (d + 1) (nI i) pc us it ln ks bl sz lf nx pv sr rt pa wy oa ov bg := by
  intro d
  induction d with
  | zero =>
    intro i bg hi h1 h2
    have : i = 3 := by omega
    subst this
    refine br_t (nI_le (a := 3) (Nat.le_refl _) (by omega)) ?_
    exact ev_begin104 (c := 3) (by omega) hg (fun bg' e1 e2 => H bg' (fun i hi => by rw [e2 i (by omega)]; exact h1 i hi) e1)
  | succ d ih =>
    intro i bg hi h1 h2
    refine br_f (nI_ge (b := 3) (by omega) (by omega)) ?_
    rw [nI_1]
    refine ⟨vp_in_nI (by omega) (by omega), vp_in_nI (by omega) (by omega), fun b eb y ey => ?_⟩
    subst ey
    have hb := hβ (i + 1) (by omega)
    rw [nI_clamp (by omega), nI_clamp (by omega), h2 (i + 1) (by omega) (by omega), pk_sub (hB2 i (by omega)), ev_nss (by omega)] at eb
    refine ih (i + 1) b (by omega) (fun j hj => ?_) (fun j hj hj4 => ?_)
    · by_cases e : j = i
      · rw [e, eb, pk_us]
      · rw [eb, pk_un e]; exact h1 j (by omega)
    · rw [eb, pk_un (by omega)]; exact h2 j (by omega) hj4
theorem ev_begin17 {post : SX → Prop} {g B : Nat} {oa0 ov0 : Nat → Int32} (hg : g ≤ 560) (hs : ∀ j, j < g → ∃ n, n < 704 ∧ oa0 j = nI n)
    (H : ∀ oa' ov', (∀ j, j < g - B → oa' j = oa0 (j + B) ∧ ov' j = ov0 (j + B)) → ∃ n71, wX_begin_71 post (nI B) fb sp dp (nI 4) (nI (g - B)) ls fd mn n71 0 pc us it ln ks bl sz lf nx pv sr rt pa wy oa' ov' bg) :
    ∀ (d i : Nat) (oa ov : Nat → Int32), B + i + d = g → (∀ j, j < i → oa j = oa0 (j + B) ∧ ov j = ov0 (j + B)) → (∀ j, i ≤ j → oa j = oa0 j ∧ ov j = ov0 j) → wX_begin_17 post (nI B) fb sp dp (nI 4) (nI g) ls fd mn (d + 1) (nI (B + i)) pc us it ln ks bl sz lf nx pv sr rt pa wy oa ov bg := by
  intro d
  induction d with
  | zero =>
    intro i oa ov hi h1 h2
    refine br_t (nI_le (by omega) (by omega)) (fun y ey => ?_)
    rw [pk_sub (by omega)] at ey
    subst ey
    exact H oa ov (fun j hj => h1 j (by omega))
  | succ d ih =>
    intro i oa ov hi h1 h2
    refine br_f (nI_ge (by omega) (by omega)) ?_
    rw [pk_sub (by omega), show B + i - B = i from by omega]
    have i1 : vp_in (nI (B + i)) 560 := vp_in_nI (by omega) (by omega)
    have i2 : vp_in (nI i) 560 := vp_in_nI (by omega) (by omega)
    refine ⟨i1, i2, fun a ea => ⟨i1, i2, fun b eb y ey => ?_⟩⟩
    rw [nI_1] at ey
    subst ey
    obtain ⟨n, hn, en⟩ := hs (B + i) (by omega)
    have q := h2 (B + i) (by omega)
    rw [nI_clamp (by omega), nI_clamp (by omega), q.1, en, ev_ns (by omega), ← en] at ea
    rw [nI_clamp (by omega), nI_clamp (by omega), q.2] at eb
    refine ih (i + 1) a b (by omega) (fun j hj => ?_) (fun j hj => ?_)
    · by_cases e : j = i
      · rw [e, ea, eb, pk_us, pk_us, show i + B = B + i from by omega]; exact ⟨rfl, rfl⟩
      · rw [ea, eb, pk_un e, pk_un e]; exact h1 j (by omega)
    · rw [ea, eb, pk_un (by omega), pk_un (by omega)]; exact h2 j (by omega)
theorem ev_begin {post : SX → Prop} {c g sh : Nat} {β : Nat → Nat} {HP HI : Nat → Nat → Int32} (hc : c ≤ 4) (hsh : sh = if c = 4 then 1 else 0) (be : ev_be c g β) (ch : ev_ch g HP HI oa ov) (hbg : ∀ i, i < c → bg i = nI (β i))
    (H : ∀ oa' ov' bg', (∀ i, i ≤ c - sh → bg' i = nI (β (i + sh) - β sh)) → ev_ch (g - β sh) (fun j => HP (j + β sh)) (fun j => HI (j + β sh)) oa' ov' → post (fb, sp, dp, nI (c - sh + 1), nI (g - β sh), 1, fd, mn, pc, us, it, ln, ks, bl, sz, lf, nx, pv, sr, rt, pa, wy, oa', ov', bg')) :
    wpX_begin post (fb, sp, dp, nI c, nI g, ls, fd, mn, pc, us, it, ln, ks, bl, sz, lf, nx, pv, sr, rt, pa, wy, oa, ov, bg) := by
  have g512 : g ≤ 512 := by
    have := ev_be_le be c (Nat.le_refl _)
    rw [be.2.1] at this
    omega
  by_cases c4 : c = 4
  · subst c4
    rw [if_pos rfl] at hsh
    subst hsh
    refine br_t rfl (fun x ex => ?_)
    rw [hbg 1 (by omega)] at ex
    subst ex
    have hB := ev_be_mono be 4 1 (by omega) (by omega)
    rw [be.2.1] at hB
    refine Exists.intro (g - β 1 + 1) ?_
    refine ev_begin17 (oa0 := oa) (ov0 := ov) (by omega) (fun j hj => ev_bk_s (ch.1 j hj)) (fun oa' ov' h => Exists.intro 4 ?_) (g - β 1) 0 oa ov (by omega) (fun j hj => absurd hj (Nat.not_lt_zero _)) (fun j _ => ⟨rfl, rfl⟩)
    refine ev_begin71 (β := β) (by omega) (fun i hi => ?_) (fun i hi => ?_) (fun i hi => ?_) (fun bg' e1 e2 => ?_) 3 0 bg (by omega) (fun j hj => absurd hj (Nat.not_lt_zero _)) (fun j _ hj => hbg j hj)
    · left; exact ev_be_mono be (i + 1) 1 (by omega) (by omega)
    · have := ev_be_le be i (by omega); omega
    · exact ev_be_mono be (i + 1) 1 (by omega) (by omega)
    · refine H oa' ov' bg' (fun i hi => ?_) ⟨fun j hj => ?_, fun j hj => ch.2 (j + β 1) (by omega)⟩
      · by_cases e : i = 3
        · rw [e, e2]
          have := be.2.1
          show nI (g - β 1) = nI (β 4 - β 1)
          rw [this]
        · exact e1 i (by omega)
      · obtain ⟨h1, h2⟩ := h j hj
        rw [h1, h2]
        have := ch.1 (j + β 1) (by omega)
        rw [show j + β 1 + 1 = j + 1 + β 1 from by omega] at this
        exact this
  · rw [if_neg c4] at hsh
    subst hsh
    have b0 := be.1
    refine br_f (fun e => c4 ((nI_eq (b := 4) (by omega) (by omega)).mp e)) ?_
    refine ev_begin104 (by omega) (by omega) (fun bg' e1 e2 => ?_)
    have e0 : g - β 0 = g := by omega
    have := H oa ov bg' (fun i hi => ?_) ?_
    · rw [e0] at this; exact this
    · show bg' i = nI (β (i + 0) - β 0)
      rw [b0, Nat.sub_zero, Nat.add_zero]
      by_cases e : i = c
      · rw [e, e1, be.2.1]
      · rw [e2 i e]; exact hbg i (by omega)
    · rw [e0, b0]; exact ch
end
section
variable {yk yf yl : Int32} {ya yi ym yz : Nat → Int32}
theorem ev_keep82 {post : SY → Prop} {c : Nat} {z0 : Nat → Int32} (hc : c < 4) (H : ∀ yz', (∀ b, b < 192 → yz' (704 * c + 512 + b) = yi b) → (∀ j, j < 704 * c + 512 → yz' j = z0 j) → post (nI (c + 1), yf, yl, ya, yi, ym, yz')) :
    ∀ (d i : Nat) (yz : Nat → Int32), i + d = 192 → (∀ b, b < i → yz (704 * c + 512 + b) = yi b) → (∀ j, j < 704 * c + 512 → yz j = z0 j) → wY_keep_82 post (nI c) yf yl (d + 1) (nI i) ya yi ym yz := by
  intro d
  induction d with
  | zero =>
    intro i yz hi h1 h2
    have : i = 192 := by omega
    subst this
    refine br_t (nI_le (a := 192) (Nat.le_refl _) (by omega)) (fun y ey => ?_)
    rw [nI_1] at ey
    rw [ey]
    exact H yz h1 h2
  | succ d ih =>
    intro i yz hi h1 h2
    have ei : (704 : Int32) * nI c + 512 + nI i = nI (704 * c + 512 + i) := by
      show nI 704 * nI c + nI 512 + nI i = _
      rw [pk_mul, nI_add, nI_add]
    refine br_f (nI_ge (b := 192) (by omega) (by omega)) ?_
    rw [ei]
    refine ⟨vp_in_nI (by omega) (by omega), vp_in_nI (by omega) (by omega), fun z ez y ey => ?_⟩
    rw [nI_1] at ey
    subst ey
    rw [nI_clamp (by omega), nI_clamp (by omega)] at ez
    refine ih (i + 1) z (by omega) (fun b hb => ?_) (fun j hj => ?_)
    · by_cases e : b = i
      · rw [ez, e, pk_us]
      · rw [ez, pk_un (by omega)]; exact h1 b (by omega)
    · rw [ez, pk_un (by omega)]; exact h2 j hj
theorem ev_keep46 {post : SY → Prop} {c : Nat} {z0 : Nat → Int32} (hc : c < 4) (H : ∀ yz', ev_as yz' c ya yi → (∀ j, j < 704 * c → yz' j = z0 j) → post (nI (c + 1), yf, yl, ya, yi, ym, yz')) :
    ∀ (d i : Nat) (yz : Nat → Int32), i + d = 512 → (∀ k, k < i → yz (704 * c + k) = ya k) → (∀ j, j < 704 * c → yz j = z0 j) → wY_keep_46 post (nI c) yf yl (d + 1) (nI i) ya yi ym yz := by
  intro d
  induction d with
  | zero =>
    intro i yz hi h1 h2
    have : i = 512 := by omega
    subst this
    refine br_t (nI_le (a := 512) (Nat.le_refl _) (by omega)) (Exists.intro 193 ?_)
    exact ev_keep82 (z0 := yz) hc (fun yz' a b => H yz' ⟨fun k hk => by rw [b _ (by omega)]; exact h1 k hk, a⟩ (fun j hj => by rw [b j (by omega)]; exact h2 j hj)) 192 0 yz (by omega) (fun b hb => absurd hb (Nat.not_lt_zero _)) (fun _ _ => rfl)
  | succ d ih =>
    intro i yz hi h1 h2
    have ei : (704 : Int32) * nI c + nI i = nI (704 * c + i) := by
      show nI 704 * nI c + nI i = _
      rw [pk_mul, nI_add]
    refine br_f (nI_ge (b := 512) (by omega) (by omega)) ?_
    rw [ei]
    refine ⟨vp_in_nI (by omega) (by omega), vp_in_nI (by omega) (by omega), fun z ez y ey => ?_⟩
    rw [nI_1] at ey
    subst ey
    rw [nI_clamp (by omega), nI_clamp (by omega)] at ez
    refine ih (i + 1) z (by omega) (fun k hk => ?_) (fun j hj => ?_)
    · by_cases e : k = i
      · rw [ez, e, pk_us]
      · rw [ez, pk_un (by omega)]; exact h1 k (by omega)
    · rw [ez, pk_un (by omega)]; exact h2 j hj
theorem ev_keep15 {post : SY → Prop} {z0 : Nat → Int32} (H : ∀ yz', (∀ j, j < 2112 → yz' j = z0 (j + 704)) → ∃ n46, wY_keep_46 post (nI 3) yf yl n46 0 ya yi ym yz') :
    ∀ (d i : Nat) (yz : Nat → Int32), i + d = 2112 → (∀ j, j < i → yz j = z0 (j + 704)) → (∀ j, i ≤ j → yz j = z0 j) → wY_keep_15 post (nI 3) yf yl (d + 1) (nI i) ya yi ym yz := by
  intro d
  induction d with
  | zero =>
    intro i yz hi h1 h2
    have : i = 2112 := by omega
    subst this
    exact br_t (nI_le (a := 2112) (Nat.le_refl _) (by omega)) (H yz h1)
  | succ d ih =>
    intro i yz hi h1 h2
    have ei : nI i + (704 : Int32) = nI (i + 704) := nI_add i 704
    refine br_f (nI_ge (b := 2112) (by omega) (by omega)) ?_
    rw [ei]
    refine ⟨vp_in_nI (by omega) (by omega), vp_in_nI (by omega) (by omega), fun z ez y ey => ?_⟩
    rw [nI_1] at ey
    subst ey
    rw [nI_clamp (by omega), nI_clamp (by omega), h2 (i + 704) (by omega)] at ez
    refine ih (i + 1) z (by omega) (fun j hj => ?_) (fun j hj => ?_)
    · by_cases e : j = i
      · rw [ez, e, pk_us]
      · rw [ez, pk_un (by omega)]; exact h1 j (by omega)
    · rw [ez, pk_un (by omega)]; exact h2 j (by omega)
theorem ev_keep {post : SY → Prop} {c sh : Nat} (hc : c ≤ 4) (hsh : sh = if c = 4 then 1 else 0)
    (H : ∀ yz', ev_as yz' (c - sh) ya yi → (∀ j, j < 704 * (c - sh) → yz' j = yz (j + 704 * sh)) → post (nI (c - sh + 1), yf, yl, ya, yi, ym, yz')) :
    wpY_keep post (nI c, yf, yl, ya, yi, ym, yz) := by
  by_cases c4 : c = 4
  · subst c4
    rw [if_pos rfl] at hsh
    subst hsh
    refine br_t rfl (Exists.intro 2113 ?_)
    refine ev_keep15 (z0 := yz) (fun yz' h => Exists.intro 513 ?_) 2112 0 yz (by omega) (fun j hj => absurd hj (Nat.not_lt_zero _)) (fun _ _ => rfl)
    exact ev_keep46 (c := 3) (z0 := yz') (by omega) (fun yz2 a b => H yz2 a (fun j hj => by rw [b j (by omega)]; exact h j (by omega))) 512 0 yz' (by omega) (fun k hk => absurd hk (Nat.not_lt_zero _)) (fun _ _ => rfl)
  · rw [if_neg c4] at hsh
    subst hsh
    refine br_f (fun e => c4 ((nI_eq (b := 4) (by omega) (by omega)).mp e)) (Exists.intro 513 ?_)
    exact ev_keep46 (c := c) (z0 := yz) (by omega) (fun yz2 a b => H yz2 a (fun j hj => by rw [b j (by omega)]; rfl)) 512 0 yz (by omega) (fun k hk => absurd hk (Nat.not_lt_zero _)) (fun _ _ => rfl)
end
end
section
/-! the relation; the calls that only look: in, fits, read, place, changes, settle, uses, extents -/
def ev_RR (fb sp kp lg ls : Int32) (pc us it ln ks bl sz lf nx pv sr rt oa ov bg : Nat → Int32) (yk : Int32) (ya yi yz : Nat → Int32) : Prop :=
  ∃ (c g : Nat) (β : Nat → Nat) (HP HI : Nat → Nat → Int32), ls = 0 ∧ kp = nI c ∧ lg = nI g ∧ yk = nI c ∧ ya = pc ∧ yi = it ∧ c ≤ 4 ∧
    ev_PX pc fb us ln sp ks bl sz lf nx pv sr rt ∧ ev_be c g β ∧ ev_ch g HP HI oa ov ∧ HP g = pc ∧ HI g = it ∧ (∀ i, i < c → bg i = nI (β i)) ∧ (∀ i, i < c → ev_as yz i (HP (β i)) (HI (β i)))
def i_Rel (_ : Nat) (u : SX) (v : SY) : Prop := match u, v with
  | (fb, sp, dp, kp, lg, ls, fd, mn, pc, us, it, ln, ks, bl, sz, lf, nx, pv, sr, rt, pa, wy, oa, ov, bg), (yk, yf, yl, ya, yi, ym, yz) => ev_RR fb sp kp lg ls pc us it ln ks bl sz lf nx pv sr rt oa ov bg yk ya yi yz
theorem i_up {k : Nat} {u : SX} {v : SY} (h : i_Rel k u v) : i_Rel (k + 5) u v := h
theorem ev_el {k : Nat} {P : SX → SY → Prop} {u : SX} {v : SY} (I : i_Rel k u v)
    (h : ∀ (fb sp dp kp lg ls fd mn : Int32) (pc us it ln ks bl sz lf nx pv sr rt pa wy oa ov bg : Nat → Int32) (yk yf yl : Int32) (ya yi ym yz : Nat → Int32), ev_RR fb sp kp lg ls pc us it ln ks bl sz lf nx pv sr rt oa ov bg yk ya yi yz → P (fb, sp, dp, kp, lg, ls, fd, mn, pc, us, it, ln, ks, bl, sz, lf, nx, pv, sr, rt, pa, wy, oa, ov, bg) (yk, yf, yl, ya, yi, ym, yz)) : P u v := by
  obtain ⟨fb, sp, dp, kp, lg, ls, fd, mn, pc, us, it, ln, ks, bl, sz, lf, nx, pv, sr, rt, pa, wy, oa, ov, bg⟩ := u
  obtain ⟨yk, yf, yl, ya, yi, ym, yz⟩ := v
  exact h fb sp dp kp lg ls fd mn pc us it ln ks bl sz lf nx pv sr rt pa wy oa ov bg yk yf yl ya yi ym yz I
theorem ev_inX1 {post : Int32 → Prop} {j n : Nat} (h : j < n) (hn : n < 2 ^ 31) (H : post 1) : wpX_in post (nI j) (nI n) :=
  br_f (nI_pos (by omega)) (br_f (nI_ge h hn) H)
theorem ev_inY1 {post : Int32 → Prop} {j n : Nat} (h : j < n) (hn : n < 2 ^ 31) (H : post 1) : wpY_in post (nI j) (nI n) :=
  br_f (nI_pos (by omega)) (br_f (nI_ge h hn) H)
theorem ev_in_c {p : Int32} {n : Nat} (hn : n < 2 ^ 31) (h : ¬ ∃ j, j < n ∧ p = nI j) : p < 0 ∨ (¬ p < 0 ∧ nI n ≤ p) := by
  by_cases c : p < 0
  · exact Or.inl c
  · obtain ⟨j, hj, e⟩ := nI_of c
    refine Or.inr ⟨c, ?_⟩
    rw [e]
    exact nI_le (by
      by_cases q : n ≤ j
      · exact q
      · exact absurd ⟨j, by omega, e⟩ h) hj
theorem ev_inX0 {post : Int32 → Prop} {p : Int32} {n : Nat} (hn : n < 2 ^ 31) (h : ¬ ∃ j, j < n ∧ p = nI j) (H : post 0) : wpX_in post p (nI n) := by
  rcases ev_in_c hn h with c | ⟨c, d⟩
  · exact br_t c H
  · exact br_f c (br_t d H)
theorem ev_inY0 {post : Int32 → Prop} {p : Int32} {n : Nat} (hn : n < 2 ^ 31) (h : ¬ ∃ j, j < n ∧ p = nI j) (H : post 0) : wpY_in post p (nI n) := by
  rcases ev_in_c hn h with c | ⟨c, d⟩
  · exact br_t c H
  · exact br_f c (br_t d H)
/-- a row of pieces of a file -/
def ev_row (p0 p1 p2 : Int32) : Prop := ∃ file from_ n : Nat, file < 8 ∧ from_ < 64 ∧ 1 ≤ n ∧ from_ + n ≤ 64 ∧ p0 = nI file ∧ p1 = nI from_ ∧ p2 = nI n
theorem ev_fits1 {post : Int32 → Prop} {file from_ n : Nat} (h1 : file < 8) (h2 : from_ < 64) (h3 : 1 ≤ n) (h4 : from_ + n ≤ 64) (H : post 1) : wpX_fits post (nI file) (nI from_) (nI n) := by
  refine ev_inX1 (n := 8) h1 (by omega) (br_f (by decide) (ev_inX1 (n := 64) h2 (by omega) (br_f (by decide) ?_)))
  refine br_f (nI_ge (a := 0) (by omega) (by omega)) ?_
  have e : (64 : Int32) - nI from_ = nI (64 - from_) := pk_sub (a := 64) (by omega)
  rw [e]
  exact br_f (nI_nlt (by omega) (by omega)) H
theorem ev_isRow1 {post : Int32 → Prop} {file from_ n : Nat} (h1 : file < 8) (h2 : from_ < 64) (h3 : 1 ≤ n) (h4 : from_ + n ≤ 64) (H : post 1) : wpY_isRow post (nI file) (nI from_) (nI n) := by
  refine ev_inY1 (n := 8) h1 (by omega) (br_f (by decide) (ev_inY1 (n := 64) h2 (by omega) (br_f (by decide) ?_)))
  refine br_f (nI_nlt (b := 1) (by omega) (by omega)) ?_
  have e : (64 : Int32) - nI from_ = nI (64 - from_) := pk_sub (a := 64) (by omega)
  rw [e]
  exact br_f (nI_nlt (by omega) (by omega)) H
theorem ev_fits0 {post : Int32 → Prop} {p0 p1 p2 : Int32} (h : ¬ ev_row p0 p1 p2) (H : post 0) : wpX_fits post p0 p1 p2 := by
  by_cases c0 : ∃ j, j < 8 ∧ p0 = nI j
  · obtain ⟨file, hf, e0⟩ := c0
    subst e0
    refine ev_inX1 (n := 8) hf (by omega) (br_f (by decide) ?_)
    by_cases c1 : ∃ j, j < 64 ∧ p1 = nI j
    · obtain ⟨from_, hf1, e1⟩ := c1
      subst e1
      refine ev_inX1 (n := 64) hf1 (by omega) (br_f (by decide) ?_)
      have e : (64 : Int32) - nI from_ = nI (64 - from_) := pk_sub (a := 64) (by omega)
      rw [e]
      refine br_c (fun _ => H) (fun c2 => br_c (fun _ => H) (fun c3 => ?_))
      have c2' : ¬ p2 < 0 := fun q => c2 (Int32.le_of_lt q)
      obtain ⟨n, hn, e2⟩ := nI_of c2'
      subst e2
      rw [show (0 : Int32) = nI 0 from rfl, nI_leI hn (by omega)] at c2
      rw [nI_ltI (by omega) hn] at c3
      exact absurd ⟨file, from_, n, hf, hf1, by omega, by omega, rfl, rfl, rfl⟩ h
    · exact ev_inX0 (n := 64) (by omega) c1 (br_t rfl H)
  · exact ev_inX0 (n := 8) (by omega) c0 (br_t rfl H)
theorem ev_isRow0 {post : Int32 → Prop} {p0 p1 p2 : Int32} (h : ¬ ev_row p0 p1 p2) (H : post 0) : wpY_isRow post p0 p1 p2 := by
  by_cases c0 : ∃ j, j < 8 ∧ p0 = nI j
  · obtain ⟨file, hf, e0⟩ := c0
    subst e0
    refine ev_inY1 (n := 8) hf (by omega) (br_f (by decide) ?_)
    by_cases c1 : ∃ j, j < 64 ∧ p1 = nI j
    · obtain ⟨from_, hf1, e1⟩ := c1
      subst e1
      refine ev_inY1 (n := 64) hf1 (by omega) (br_f (by decide) ?_)
      have e : (64 : Int32) - nI from_ = nI (64 - from_) := pk_sub (a := 64) (by omega)
      rw [e]
      refine br_c (fun _ => H) (fun c2 => br_c (fun _ => H) (fun c3 => ?_))
      have c2' : ¬ p2 < 0 := fun q => c2 (by
        have := Int32.lt_iff_toInt_lt.mp q
        rw [Int32.lt_iff_toInt_lt]
        have e1 : (1 : Int32).toInt = 1 := by decide
        have e0 : (0 : Int32).toInt = 0 := by decide
        omega)
      obtain ⟨n, hn, e2⟩ := nI_of c2'
      subst e2
      rw [show (1 : Int32) = nI 1 from rfl, nI_ltI hn (by omega)] at c2
      rw [nI_ltI (by omega) hn] at c3
      exact absurd ⟨file, from_, n, hf, hf1, by omega, by omega, rfl, rfl, rfl⟩ h
    · exact ev_inY0 (n := 64) (by omega) c1 (br_t rfl H)
  · exact ev_inY0 (n := 8) (by omega) c0 (br_t rfl H)
theorem ev_i64 {a b : Nat} (ha : a < 8) (hb : b < 64) : (64 : Int32) * nI a + nI b = nI (64 * a + b) := by
  show nI 64 * nI a + nI b = _
  rw [pk_mul, nI_add]
theorem i_vc_changes {k : Nat} {u : SX} {v : SY} (I : i_Rel k u v) (hk : k + 5 ≤ 2560) : wpX_changes (fun r => wpY_changes (fun r' => r' = r ∧ i_Rel (k + 5) u v) v) u := by
  refine ev_el (P := fun u v => wpX_changes (fun r => wpY_changes (fun r' => r' = r ∧ i_Rel (k + 5) u v) v) u) I ?_
  intro fb sp dp kp lg ls fd mn pc us it ln ks bl sz lf nx pv sr rt pa wy oa ov bg yk yf yl ya yi ym yz R
  obtain ⟨c, g, β, HP, HI, r1, r2, r3, r4, r⟩ := R
  exact And.intro (r4.trans r2.symm) ⟨c, g, β, HP, HI, r1, r2, r3, r4, r⟩
theorem i_vc_settle {k : Nat} {u : SX} {v : SY} (I : i_Rel k u v) (hk : k + 5 ≤ 2560) : wpX_settle (fun r u' => wpY_settle (fun r' v' => r' = r ∧ i_Rel (k + 5) u' v') v) u := by
  refine ev_el (P := fun u v => wpX_settle (fun r u' => wpY_settle (fun r' v' => r' = r ∧ i_Rel (k + 5) u' v') v) u) I ?_
  intro fb sp dp kp lg ls fd mn pc us it ln ks bl sz lf nx pv sr rt pa wy oa ov bg yk yf yl ya yi ym yz R
  obtain ⟨c, g, β, HP, HI, r1, r2, r3, r4, r5, r6, r7, r8, r9, r10, r11, r12, r13, r14⟩ := R
  refine And.intro (r4.trans r2.symm) ⟨0, 0, fun _ => 0, fun _ => pc, fun _ => it, r1, rfl, rfl, rfl, r5, r6, by omega, r8, ⟨rfl, rfl, fun i hi => absurd hi (Nat.not_lt_zero _)⟩, ⟨fun j hj => absurd hj (Nat.not_lt_zero _), fun j hj => r8.1⟩, rfl, rfl, fun i hi => absurd hi (Nat.not_lt_zero _), fun i hi => absurd hi (Nat.not_lt_zero _)⟩
theorem i_vc_place {k : Nat} {u : SX} {v : SY} (I : i_Rel k u v) (hk : k + 5 ≤ 2560) (v1 : Int32) (v2 : Int32) : wpX_place (fun r => wpY_place (fun r' => r' = r ∧ i_Rel (k + 5) u v) v v1 v2) u v1 v2 := by
  refine ev_el (P := fun u v => wpX_place (fun r => wpY_place (fun r' => r' = r ∧ i_Rel (k + 5) u v) v v1 v2) u v1 v2) I ?_
  intro fb sp dp kp lg ls fd mn pc us it ln ks bl sz lf nx pv sr rt pa wy oa ov bg yk yf yl ya yi ym yz R
  have R0 := R
  obtain ⟨c, g, β, HP, HI, r1, r2, r3, r4, r5, r6, r⟩ := R
  unfold wpX_place wpY_place
  dsimp only
  by_cases c0 : ∃ j, j < 8 ∧ v1 = nI j
  · obtain ⟨file, hf, e0⟩ := c0
    subst e0
    by_cases c1 : ∃ j, j < 64 ∧ v2 = nI j
    · obtain ⟨p, hp, e1⟩ := c1
      subst e1
      have i1 : vp_in ((64 : Int32) * nI file + nI p) 512 := by rw [ev_i64 hf hp]; exact vp_in_nI (by omega) (by omega)
      refine ev_inX1 (n := 8) hf (by omega) (br_f (by decide) (ev_inX1 (n := 64) hp (by omega) (br_f (by decide) ⟨i1, ?_⟩)))
      refine ev_inY1 (n := 8) hf (by omega) (br_f (by decide) (ev_inY1 (n := 64) hp (by omega) (br_f (by decide) ⟨i1, ?_⟩)))
      exact ⟨by rw [r5], R0⟩
    · refine ev_inX1 (n := 8) hf (by omega) (br_f (by decide) (ev_inX0 (n := 64) (by omega) c1 (br_t rfl ?_)))
      exact ev_inY1 (n := 8) hf (by omega) (br_f (by decide) (ev_inY0 (n := 64) (by omega) c1 (br_t rfl ⟨rfl, R0⟩)))
  · exact ev_inX0 (n := 8) (by omega) c0 (br_t rfl (ev_inY0 (n := 8) (by omega) c0 (br_t rfl ⟨rfl, R0⟩)))
section
variable {yk yf yl : Int32} {ya yi ym yz : Nat → Int32}
theorem ev_placeY1 {post : Int32 → Prop} {file p : Nat} (hf : file < 8) (hp : p < 64) (H : post (ya (64 * file + p))) : wpY_place post (yk, yf, yl, ya, yi, ym, yz) (nI file) (nI p) := by
  have i1 : vp_in ((64 : Int32) * nI file + nI p) 512 := by rw [ev_i64 hf hp]; exact vp_in_nI (by omega) (by omega)
  have i2 : ((64 : Int32) * nI file + nI p).toNatClampNeg = 64 * file + p := by rw [ev_i64 hf hp]; exact nI_clamp (by omega)
  unfold wpY_place
  dsimp only
  refine ev_inY1 (n := 8) hf (by omega) (br_f (by decide) (ev_inY1 (n := 64) hp (by omega) (br_f (by decide) ⟨i1, ?_⟩)))
  rw [i2]; exact H
theorem ev_placeY0 {post : Int32 → Prop} {v1 v2 : Int32} (h : ¬ ∃ file p, file < 8 ∧ p < 64 ∧ v1 = nI file ∧ v2 = nI p) (H : post (-1)) : wpY_place post (yk, yf, yl, ya, yi, ym, yz) v1 v2 := by
  unfold wpY_place
  dsimp only
  by_cases c0 : ∃ j, j < 8 ∧ v1 = nI j
  · obtain ⟨file, hf, e0⟩ := c0
    subst e0
    refine ev_inY1 (n := 8) hf (by omega) (br_f (by decide) (ev_inY0 (n := 64) (by omega) (fun ⟨p, hp, e⟩ => h ⟨file, p, hf, hp, rfl, e⟩) (br_t rfl H)))
  · exact ev_inY0 (n := 8) (by omega) c0 (br_t rfl H)
end
theorem i_vc_read {k : Nat} {u : SX} {v : SY} (I : i_Rel k u v) (hk : k + 5 ≤ 2560) (v1 : Int32) (v2 : Int32) : wpX_read (fun r => wpY_read (fun r' => r' = r ∧ i_Rel (k + 5) u v) v v1 v2) u v1 v2 := by
  refine ev_el (P := fun u v => wpX_read (fun r => wpY_read (fun r' => r' = r ∧ i_Rel (k + 5) u v) v v1 v2) u v1 v2) I ?_
  intro fb sp dp kp lg ls fd mn pc us it ln ks bl sz lf nx pv sr rt pa wy oa ov bg yk yf yl ya yi ym yz R
  have R0 := R
  obtain ⟨c, g, β, HP, HI, r1, r2, r3, r4, r5, r6, r7, r8, r⟩ := R
  unfold wpX_read wpY_read
  dsimp only
  by_cases c0 : ∃ j, j < 8 ∧ v1 = nI j
  · obtain ⟨file, hf, e0⟩ := c0
    subst e0
    by_cases c1 : ∃ j, j < 64 ∧ v2 = nI j
    · obtain ⟨p, hp, e1⟩ := c1
      subst e1
      have i1 : vp_in ((64 : Int32) * nI file + nI p) 512 := by rw [ev_i64 hf hp]; exact vp_in_nI (by omega) (by omega)
      have i2 : ((64 : Int32) * nI file + nI p).toNatClampNeg = 64 * file + p := by rw [ev_i64 hf hp]; exact nI_clamp (by omega)
      obtain ⟨o, ho, hob⟩ := r8.1.1 (64 * file + p) (by omega)
      refine ev_inX1 (n := 8) hf (by omega) (br_f (by decide) (ev_inX1 (n := 64) hp (by omega) (br_f (by decide) ⟨i1, fun x ex => ?_⟩)))
      rw [i2, ho] at ex
      subst ex
      have yy : ∀ q : Int32 → Prop, q (ev_o o) → wpY_place q (yk, yf, yl, ya, yi, ym, yz) (nI file) (nI p) := by
        intro q hq
        refine ev_placeY1 hf hp ?_
        rw [r5, ho]; exact hq
      cases o with
      | none =>
        refine br_f (show ¬ (0 : Int32) ≤ -1 by decide) ?_
        exact yy _ (br_f (show ¬ (0 : Int32) ≤ -1 by decide) ⟨rfl, R0⟩)
      | some b =>
        have hb := hob b rfl
        refine br_t (nI_pos' (n := b) (by omega)) ⟨vp_in_nI hb (by omega), ?_⟩
        exact yy _ (br_t (nI_pos' (n := b) (by omega)) ⟨vp_in_nI hb (by omega), by rw [r6], R0⟩)
    · refine ev_inX1 (n := 8) hf (by omega) (br_f (by decide) (ev_inX0 (n := 64) (by omega) c1 (br_t rfl ?_)))
      exact ev_placeY0 (fun ⟨_, p, _, hp, _, e⟩ => c1 ⟨p, hp, e⟩) (br_f (show ¬ (0 : Int32) ≤ -1 by decide) ⟨rfl, R0⟩)
  · refine ev_inX0 (n := 8) (by omega) c0 (br_t rfl ?_)
    exact ev_placeY0 (fun ⟨f, _, hf, _, e, _⟩ => c0 ⟨f, hf, e⟩) (br_f (show ¬ (0 : Int32) ≤ -1 by decide) ⟨rfl, R0⟩)
theorem i_vc_uses {k : Nat} {u : SX} {v : SY} (I : i_Rel k u v) (hk : k + 5 ≤ 2560) (v1 : Int32) : wpX_uses (fun r => wpY_uses (fun r' v' => r' = r ∧ i_Rel (k + 5) u v') v v1) u v1 := by
  refine ev_el (P := fun u v => wpX_uses (fun r => wpY_uses (fun r' v' => r' = r ∧ i_Rel (k + 5) u v') v v1) u v1) I ?_
  intro fb sp dp kp lg ls fd mn pc us it ln ks bl sz lf nx pv sr rt pa wy oa ov bg yk yf yl ya yi ym yz R
  have R0 := R
  obtain ⟨c, g, β, HP, HI, r1, r2, r3, r4, r5, r6, r7, r8, r⟩ := R
  unfold wpX_uses wpY_uses
  dsimp only
  by_cases c0 : ∃ j, j < 192 ∧ v1 = nI j
  · obtain ⟨b, hb, e0⟩ := c0
    subst e0
    refine ev_inX1 (n := 192) hb (by omega) (br_f (by decide) ⟨vp_in_nI hb (by omega), ?_⟩)
    refine ev_inY1 (n := 192) hb (by omega) (br_f (by decide) (ev_count (by rw [r5]; exact r8.1) (fun ym' h => ?_)))
    refine ⟨vp_in_nI hb (by omega), ?_, R0⟩
    rw [nI_clamp (by omega)]
    show ym' b = us b
    rw [h b hb, r8.2.1 b hb, r5]
  · exact ev_inX0 (n := 192) (by omega) c0 (br_t rfl (ev_inY0 (n := 192) (by omega) c0 (br_t rfl ⟨rfl, R0⟩)))
end
section
/-! extents -/
def ev_dc (x : Int32) : Option Nat := if x < 0 then none else some x.toNatClampNeg
theorem ev_dc_o {o : Option Nat} (h : ∀ b, o = some b → b < 192) : ev_dc (ev_o o) = o := by
  cases o with
  | none => exact if_pos (by decide)
  | some b =>
    have := h b rfl
    show (if nI b < 0 then none else some (nI b).toNatClampNeg) = some b
    rw [if_neg (nI_pos (by omega)), nI_clamp (by omega)]
def ev_nw (prev cur : Option Nat) : Nat := match cur with
  | none => 0
  | some b => match prev with
    | none => 1
    | some a => if b = a + 1 ∧ b % 64 ≠ 0 then 0 else 1
def ev_ex (pc : Nat → Int32) (base : Nat) : Nat → Nat
  | 0 => 0
  | p + 1 => ev_ex pc base p + ev_nw (if p = 0 then none else ev_dc (pc (base + p - 1))) (ev_dc (pc (base + p)))
section
variable {fb sp dp kp lg ls fd mn : Int32} {pc us it ln ks bl sz lf nx pv sr rt pa wy oa ov bg : Nat → Int32}
theorem ev_extX18 {post : Int32 → Prop} {file : Nat} (g : ev_gd pc) (hf : file < 8) (H : post (nI (ev_ex pc (64 * file) 64))) :
    ∀ (d p : Nat), p + d = 64 → wX_extents_18 post (nI file) fb sp dp kp lg ls fd mn pc us it ln ks bl sz lf nx pv sr rt pa wy oa ov bg (d + 1) (nI (ev_ex pc (64 * file) p)) (nI (64 * file + p)) := by
  have e64 : (64 : Int32) * nI file + 64 = nI (64 * file + 64) := by
    show nI 64 * nI file + nI 64 = _
    rw [pk_mul, nI_add]
  have e0 : (64 : Int32) * nI file = nI (64 * file) := pk_mul 64 file
  intro d
  induction d with
  | zero =>
    intro p hp
    have : p = 64 := by omega
    subst this
    exact br_t (by rw [e64]; exact nI_le (Nat.le_refl _) (by omega)) H
  | succ d ih =>
    intro p hp
    have st : ev_ex pc (64 * file) (p + 1) = ev_ex pc (64 * file) p + ev_nw (if p = 0 then none else ev_dc (pc (64 * file + p - 1))) (ev_dc (pc (64 * file + p))) := rfl
    obtain ⟨o, ho, hob⟩ := g.1 (64 * file + p) (by omega)
    rw [ho, ev_dc_o hob] at st
    have hin : vp_in (nI (64 * file + p)) 512 := vp_in_nI (by omega) (by omega)
    have cl : (nI (64 * file + p)).toNatClampNeg = 64 * file + p := nI_clamp (by omega)
    refine br_f (by rw [e64]; exact nI_ge (by omega) (by omega)) ⟨hin, ?_⟩
    rw [cl, ho]
    have nxt := ih (p + 1) (by omega)
    have e1 : nI (64 * file + p) + 1 = nI (64 * file + (p + 1)) := nI_1 _
    -- one more, or none
    have one : ∀ z0 : Int32, z0 = 0 → ev_nw (if p = 0 then none else ev_dc (pc (64 * file + p - 1))) o = 1 → wX_extents_96 post (wX_extents_18 post (nI file) fb sp dp kp lg ls fd mn pc us it ln ks bl sz lf nx pv sr rt pa wy oa ov bg (d + 1)) (nI file) (nI (ev_ex pc (64 * file) p)) (nI (64 * file + p)) z0 fb sp dp kp lg ls fd mn pc us it ln ks bl sz lf nx pv sr rt pa wy oa ov bg := by
      intro z0 hz hw
      refine br_t hz (fun x ex y ey => ?_)
      rw [nI_1] at ex
      rw [e1] at ey
      subst ex
      subst ey
      rw [hw] at st
      rw [st] at nxt
      exact nxt
    cases o with
    | none =>
      refine br_f (show ¬ (0 : Int32) ≤ -1 by decide) (fun y ey => ?_)
      rw [e1] at ey
      subst ey
      have hw : ev_nw (if p = 0 then none else ev_dc (pc (64 * file + p - 1))) none = 0 := rfl
      rw [hw] at st
      rw [st] at nxt
      exact nxt
    | some b =>
      have hb := hob b rfl
      refine br_t (nI_pos' (n := b) (by omega)) ?_
      rw [e0]
      by_cases c : p = 0
      · subst c
        refine br_t (nI_le (by omega) (by omega)) (one 0 rfl ?_)
        rw [if_pos rfl]; rfl
      · have e1m : nI (64 * file + p) - 1 = nI (64 * file + p - 1) := by
          rw [show 64 * file + p = (64 * file + p - 1) + 1 from by omega, nI_pred, Nat.add_sub_cancel]
        have him : vp_in (nI (64 * file + p - 1)) 512 := vp_in_nI (by omega) (by omega)
        obtain ⟨o', ho', hob'⟩ := g.1 (64 * file + p - 1) (by omega)
        rw [if_neg c, ho', ev_dc_o hob'] at one st
        refine br_f (nI_ge (by omega) (by omega)) ?_
        rw [e1m]
        refine ⟨him, ?_⟩
        rw [nI_clamp (n := 64 * file + p - 1) (by omega), ho']
        cases o' with
        | none => exact br_t (show (-1 : Int32) < 0 by decide) (one 0 rfl rfl)
        | some a =>
          have ha := hob' a rfl
          refine br_f (show ¬ nI a < 0 from nI_pos (by omega)) ⟨hin, him, ?_⟩
          show (nI b = nI a + 1 → _) ∧ (¬ nI b = nI a + 1 → _)
          rw [nI_1]
          by_cases c2 : b = a + 1
          · refine br_t (by rw [c2]) ⟨hin, by decide, ?_⟩
            show (nI b - nI b / 64 * 64 = 0 → _) ∧ (¬ nI b - nI b / 64 * 64 = 0 → _)
            rw [ev_r64 (by omega)]
            by_cases c3 : b % 64 = 0
            · refine br_t (by rw [c3]; rfl) (one 0 rfl ?_)
              show (if b = a + 1 ∧ b % 64 ≠ 0 then 0 else 1) = 1
              rw [if_neg (fun h => h.2 c3)]
            · refine br_f (nI_ne0 (by omega) (by omega)) (br_f (show ¬ (1 : Int32) = 0 by decide) (fun y ey => ?_))
              rw [e1] at ey
              subst ey
              have hw : ev_nw (some a) (some b) = 0 := by
                show (if b = a + 1 ∧ b % 64 ≠ 0 then 0 else 1) = 0
                rw [if_pos ⟨c2, c3⟩]
              rw [hw] at st
              rw [st] at nxt
              exact nxt
          · refine br_f (fun e => c2 ((nI_eq (by omega) (by omega)).mp e)) (one 0 rfl ?_)
            show (if b = a + 1 ∧ b % 64 ≠ 0 then 0 else 1) = 1
            rw [if_neg (fun h => c2 h.1)]
theorem ev_extX {post : Int32 → Prop} {file : Nat} (g : ev_gd pc) (hf : file < 8) (H : post (nI (ev_ex pc (64 * file) 64))) : wpX_extents post (fb, sp, dp, kp, lg, ls, fd, mn, pc, us, it, ln, ks, bl, sz, lf, nx, pv, sr, rt, pa, wy, oa, ov, bg) (nI file) := by
  unfold wpX_extents
  dsimp only
  refine ev_inX1 (n := 8) hf (by omega) (br_f (by decide) (fun y ey => Exists.intro 65 ?_))
  have ey' : y = nI (64 * file) := by rw [ey]; exact pk_mul 64 file
  subst ey'
  exact ev_extX18 g hf H 64 0 (by omega)
end
section
variable {yk yf yl : Int32} {ya yi ym yz : Nat → Int32}
theorem ev_extY15 {post : Int32 → Prop} {file : Nat} (g : ev_gd ya) (hf : file < 8) (H : post (nI (ev_ex ya (64 * file) 64))) :
    ∀ (d p : Nat), p + d = 64 → wY_extents_15 post (nI file) yk yf yl ya yi ym yz (d + 1) (nI (ev_ex ya (64 * file) p)) (nI p) := by
  intro d
  induction d with
  | zero =>
    intro p hp
    have : p = 64 := by omega
    subst this
    exact br_t (nI_le (a := 64) (Nat.le_refl _) (by omega)) H
  | succ d ih =>
    intro p hp
    have st : ev_ex ya (64 * file) (p + 1) = ev_ex ya (64 * file) p + ev_nw (if p = 0 then none else ev_dc (ya (64 * file + p - 1))) (ev_dc (ya (64 * file + p))) := rfl
    obtain ⟨o, ho, hob⟩ := g.1 (64 * file + p) (by omega)
    rw [ho, ev_dc_o hob] at st
    have nxt := ih (p + 1) (by omega)
    refine br_f (nI_ge (b := 64) (by omega) (by omega)) ?_
    rw [ev_i64 hf (by omega)]
    refine ⟨vp_in_nI (by omega) (by omega), fun x ex => ?_⟩
    rw [nI_clamp (by omega), ho] at ex
    subst ex
    have main : ∀ o' : Option Nat, (∀ b, o' = some b → b < 192) → (if p = 0 then none else ev_dc (ya (64 * file + p - 1))) = o' → wY_extents_55 post (wY_extents_15 post (nI file) yk yf yl ya yi ym yz (d + 1)) (nI file) (nI (ev_ex ya (64 * file) p)) (nI p) (ev_o o) (ev_o o') yk yf yl ya yi ym yz := by
      intro o' hob' eo'
      rw [eo'] at st
      have zero : ev_nw o' o = 0 → ∀ y : Int32, y = nI p + 1 → wY_extents_15 post (nI file) yk yf yl ya yi ym yz (d + 1) (nI (ev_ex ya (64 * file) p)) y := by
        intro hw y ey
        rw [nI_1] at ey
        subst ey
        rw [hw] at st
        rw [st] at nxt
        exact nxt
      have one : ev_nw o' o = 1 → ∀ x : Int32, x = nI (ev_ex ya (64 * file) p) + 1 → ∀ y : Int32, y = nI p + 1 → wY_extents_15 post (nI file) yk yf yl ya yi ym yz (d + 1) x y := by
        intro hw x ex y ey
        rw [nI_1] at ex ey
        subst ex
        subst ey
        rw [hw] at st
        rw [st] at nxt
        exact nxt
      cases o with
      | none => exact br_t (show (-1 : Int32) < 0 by decide) (zero rfl)
      | some b =>
        have hb := hob b rfl
        refine br_f (show ¬ nI b < 0 from nI_pos (by omega)) ?_
        cases o' with
        | none => exact br_t (show (-1 : Int32) < 0 by decide) (one rfl)
        | some a =>
          have ha := hob' a rfl
          refine br_f (show ¬ nI a < 0 from nI_pos (by omega)) ?_
          show (nI b = nI a + 1 → _) ∧ (¬ nI b = nI a + 1 → _)
          rw [nI_1]
          by_cases c2 : b = a + 1
          · refine br_t (by rw [c2]) ⟨by decide, by decide, ?_⟩
            show (nI b / 64 = nI a / 64 → _) ∧ (¬ nI b / 64 = nI a / 64 → _)
            rw [ev_d64 (by omega), ev_d64 (by omega)]
            by_cases c3 : b / 64 = a / 64
            · refine br_t (by rw [c3]) (zero ?_)
              show (if b = a + 1 ∧ b % 64 ≠ 0 then 0 else 1) = 0
              rw [if_pos ⟨c2, by omega⟩]
            · refine br_f (fun e => c3 ((nI_eq (by omega) (by omega)).mp e)) (one ?_)
              show (if b = a + 1 ∧ b % 64 ≠ 0 then 0 else 1) = 1
              rw [if_neg (fun h => by omega)]
          · refine br_f (fun e => c2 ((nI_eq (by omega) (by omega)).mp e)) (one ?_)
            show (if b = a + 1 ∧ b % 64 ≠ 0 then 0 else 1) = 1
            rw [if_neg (fun h => c2 h.1)]
    by_cases c : p = 0
    · subst c
      exact br_t rfl (main none (fun b e => by simp at e) (if_pos rfl))
    · have e1m : nI (64 * file + p) - 1 = nI (64 * file + p - 1) := by
        rw [show 64 * file + p = (64 * file + p - 1) + 1 from by omega, nI_pred, Nat.add_sub_cancel]
      obtain ⟨o', ho', hob'⟩ := g.1 (64 * file + p - 1) (by omega)
      refine br_f (nI_ne0 (by omega) (by omega)) ?_
      rw [e1m]
      refine ⟨vp_in_nI (by omega) (by omega), ?_⟩
      rw [nI_clamp (by omega), ho']
      exact main o' hob' (by rw [if_neg c, ho', ev_dc_o hob'])
theorem ev_extY {post : Int32 → Prop} {file : Nat} (g : ev_gd ya) (hf : file < 8) (H : post (nI (ev_ex ya (64 * file) 64))) : wpY_extents post (yk, yf, yl, ya, yi, ym, yz) (nI file) := by
  unfold wpY_extents
  dsimp only
  refine ev_inY1 (n := 8) hf (by omega) (br_f (by decide) (Exists.intro 65 ?_))
  exact ev_extY15 g hf H 64 0 (by omega)
end
theorem i_vc_extents {k : Nat} {u : SX} {v : SY} (I : i_Rel k u v) (hk : k + 5 ≤ 2560) (v1 : Int32) : wpX_extents (fun r => wpY_extents (fun r' => r' = r ∧ i_Rel (k + 5) u v) v v1) u v1 := by
  refine ev_el (P := fun u v => wpX_extents (fun r => wpY_extents (fun r' => r' = r ∧ i_Rel (k + 5) u v) v v1) u v1) I ?_
  intro fb sp dp kp lg ls fd mn pc us it ln ks bl sz lf nx pv sr rt pa wy oa ov bg yk yf yl ya yi ym yz R
  have R0 := R
  obtain ⟨c, g, β, HP, HI, r1, r2, r3, r4, r5, r6, r7, r8, r⟩ := R
  by_cases c0 : ∃ j, j < 8 ∧ v1 = nI j
  · obtain ⟨file, hf, e0⟩ := c0
    subst e0
    subst r5
    exact ev_extX r8.1 hf (ev_extY r8.1 hf ⟨rfl, R0⟩)
  · unfold wpX_extents wpY_extents
    dsimp only
    exact ev_inX0 (n := 8) (by omega) c0 (br_t rfl (ev_inY0 (n := 8) (by omega) c0 (br_t rfl ⟨rfl, R0⟩)))
end
section
/-! free -/
def ev_fr (G : List Nat) (k : Nat) (w : Nat) : Int32 := match G[k]? with
  | none => -1
  | some x => if w = 0 then nI (x % 256) else nI (x / 256 % 256)
/-- the keys of a group, in order -/
def ev_gk (F : Nat → Bool) (g : Nat) (G : List Nat) : Prop := G.Pairwise (· < ·) ∧ ∀ x, x ∈ G ↔ ∃ s, ev_st F s ∧ s / 64 = g ∧ x = ev_ky s (ev_rl F s)
theorem ev_fr_mid {A B : List Nat} {x w : Nat} : ev_fr (A ++ x :: B) A.length w = if w = 0 then nI (x % 256) else nI (x / 256 % 256) := by
  unfold ev_fr; rw [ev_mid]
theorem ev_fr_end {A : List Nat} {k w : Nat} (h : A.length ≤ k) : ev_fr A k w = -1 := by
  unfold ev_fr; rw [List.getElem?_eq_none h]
theorem ev_gb_G {K1 G A B : List Nat} {g bd : Nat} {r : Option Nat} (hG : ∀ x, x ∈ G ↔ x ∈ K1 ∧ x / 65536 = g) (e : G = A ++ B) (sG : G.Pairwise (· < ·)) (hA : ∀ x, x ∈ A → x < bd) (hB : ∀ x, x ∈ B → bd ≤ x) (hbd : g * 65536 ≤ bd) (hr : ev_gb K1 bd r) :
    (∀ x B', B = x :: B' → r = some x) ∧ (B = [] → ∀ z, r = some z → z / 65536 ≠ g) := by
  have inB : ∀ z, z ∈ K1 → bd ≤ z → z / 65536 = g → z ∈ B := by
    intro z h1 h2 h3
    have : z ∈ G := (hG z).mpr ⟨h1, h3⟩
    rw [e] at this
    rcases List.mem_append.mp this with q | q
    · have := hA z q; omega
    · exact q
  refine ⟨fun x B' eB => ?_, fun eB z ez hz => ?_⟩
  · have hx : x ∈ K1 ∧ x / 65536 = g := (hG x).mp (by rw [e, eB]; simp)
    have hxb := hB x (by rw [eB]; simp)
    cases r with
    | none => have := hr x hx.1; omega
    | some z =>
      obtain ⟨z1, z2, z3⟩ := hr
      have le := z3 x hx.1 hxb
      have zB := inB z z1 z2 (by omega)
      rw [eB] at zB
      rcases List.mem_cons.mp zB with q | q
      · rw [q]
      · rw [e, eB, List.pairwise_append, List.pairwise_cons] at sG
        have := sG.2.1.1 z q
        omega
  · subst ez
    have := inB z hr.1 hr.2.1 hz
    rw [eB] at this
    simp at this
section
variable {fb sp dp kp lg ls fd mn : Int32} {pc us it ln ks bl sz lf nx pv sr rt pa wy oa ov bg : Nat → Int32}
theorem ev_free73 {post : Int32 → SX → Prop} {g k w : Nat} {G A B : List Nat} {r : Option Nat} (hg : g < 3) (e : G = A ++ B) (hlt : ∀ x, x ∈ G → x < 2 ^ 24 ∧ x / 65536 = g) (hrl : ∀ z, r = some z → z < 2 ^ 24) (h1 : ∀ x B', B = x :: B' → r = some x) (h2 : B = [] → ∀ z, r = some z → z / 65536 ≠ g) (hj : A.length ≤ k) (hk : A.length = k ∨ B = []) (hw : w < 2)
    (H : post (ev_fr G k w) (fb, sp, dp, kp, lg, ls, fd, mn, pc, us, it, ln, ks, bl, sz, lf, nx, pv, sr, rt, pa, wy, oa, ov, bg)) : wX_free_73 post (nI g) (nI w) (ev_o r) fb sp dp kp lg ls fd mn pc us it ln ks bl sz lf nx pv sr rt pa wy oa ov bg := by
  cases B with
  | nil =>
    rw [e, List.append_nil, ev_fr_end hj] at H
    cases r with
    | none => exact br_t (show (-1 : Int32) < 0 by decide) H
    | some z =>
      have := hrl z rfl
      refine br_f (show ¬ nI z < 0 from nI_pos (by omega)) ?_
      show (nI z >>> ((16 : Int32) &&& 31) = nI g → _) ∧ (¬ nI z >>> ((16 : Int32) &&& 31) = nI g → _)
      rw [ev_k16 (by omega)]
      exact br_f (fun q => h2 rfl z rfl ((nI_eq (by omega) (by omega)).mp q)) H
  | cons x B' =>
    have hk' : A.length = k := hk.resolve_right (by simp)
    have er := h1 x B' rfl
    subst er
    obtain ⟨q1, q2⟩ := hlt x (by rw [e]; simp)
    rw [e, ← hk', ev_fr_mid] at H
    refine br_f (show ¬ nI x < 0 from nI_pos (by omega)) ?_
    show (nI x >>> ((16 : Int32) &&& 31) = nI g → _) ∧ (¬ nI x >>> ((16 : Int32) &&& 31) = nI g → _)
    rw [ev_k16 (by omega)]
    refine br_t (by rw [q2]) ?_
    by_cases c : w = 0
    · rw [if_pos c] at H
      refine br_t (by rw [c]; rfl) ?_
      show post (nI x &&& 255) _
      rw [ev_k0 (by omega)]; exact H
    · rw [if_neg c] at H
      refine br_f (nI_ne0 (by omega) (by omega)) ?_
      show post (nI x >>> ((8 : Int32) &&& 31) &&& 255) _
      rw [ev_k8 (by omega)]; exact H
theorem ev_free36 {post : Int32 → SX → Prop} {K : Nat → List Nat} {g k w : Nat} {G : List Nat} (I : ev_TI K sp ks bl sz lf nx pv sr rt) (hK : (K 1).length ≤ 96) (hK24 : ∀ z, z ∈ K 1 → z < 2 ^ 23) (hg : g < 3) (hk : k < 2 ^ 31) (hw : w < 2) (hG : ∀ x, x ∈ G ↔ x ∈ K 1 ∧ x / 65536 = g) (sG : G.Pairwise (· < ·))
    (H : ∀ dp' pa' wy', post (ev_fr G k w) (fb, sp, dp', kp, lg, ls, fd, mn, pc, us, it, ln, ks, bl, sz, lf, nx, pv, sr, rt, pa', wy', oa, ov, bg)) :
    ∀ (B A : List Nat) (r : Option Nat) (dp : Int32) (pa wy : Nat → Int32), G = A ++ B → (∀ z, r = some z → z ∈ K 1) → (∀ x B', B = x :: B' → r = some x) → (B = [] → ∀ z, r = some z → z / 65536 ≠ g) → A.length ≤ k → A.length + B.length ≤ 96 →
    wX_free_36 post (nI g) (nI k) (nI w) (B.length + 1) (ev_o r) (nI A.length) fb sp dp kp lg ls fd mn pc us it ln ks bl sz lf nx pv sr rt pa wy oa ov bg := by
  have hlt : ∀ x, x ∈ G → x < 2 ^ 24 ∧ x / 65536 = g := fun x hx => ⟨by have := hK24 x ((hG x).mp hx).1; omega, ((hG x).mp hx).2⟩
  intro B
  induction B with
  | nil =>
    intro A r dp pa wy e hrK h1 h2 hj hl
    have hrl : ∀ z, r = some z → z < 2 ^ 24 := fun z ez => by have := hK24 z (hrK z ez); omega
    have fin : wX_free_73 post (nI g) (nI w) (ev_o r) fb sp dp kp lg ls fd mn pc us it ln ks bl sz lf nx pv sr rt pa wy oa ov bg := ev_free73 hg e hlt hrl h1 h2 hj (Or.inr rfl) hw (H dp pa wy)
    refine br_c (fun _ => fin) (fun _ => ?_)
    cases r with
    | none => exact br_t (show (-1 : Int32) < 0 by decide) fin
    | some z =>
      have := hrl z rfl
      refine br_f (show ¬ nI z < 0 from nI_pos (by omega)) ?_
      show (nI z >>> ((16 : Int32) &&& 31) = nI g → _) ∧ (¬ nI z >>> ((16 : Int32) &&& 31) = nI g → _)
      rw [ev_k16 (by omega)]
      exact br_f (fun q => h2 rfl z rfl ((nI_eq (by omega) (by omega)).mp q)) fin
  | cons x B ih =>
    intro A r dp pa wy e hrK h1 h2 hj hl
    have hrl : ∀ z, r = some z → z < 2 ^ 24 := fun z ez => by have := hK24 z (hrK z ez); omega
    rw [List.length_cons] at hl
    by_cases c : A.length = k
    · refine br_t (nI_le (by omega) (by omega)) (ev_free73 hg e hlt hrl h1 h2 hj (Or.inl c) hw (H dp pa wy))
    · have er := h1 x B rfl
      subst er
      obtain ⟨q1, q2⟩ := hlt x (by rw [e]; simp)
      have q3 := hK24 x (hrK x rfl)
      refine br_f (nI_ge (by omega) (by omega)) (br_f (show ¬ nI x < 0 from nI_pos (by omega)) ?_)
      show (nI x >>> ((16 : Int32) &&& 31) = nI g → _) ∧ (¬ nI x >>> ((16 : Int32) &&& 31) = nI g → _)
      rw [ev_k16 (by omega)]
      refine br_t (by rw [q2]) ?_
      show wpX_notBelow _ _ 1 (nI x + 1)
      rw [nI_1 x]
      refine ev_notBelow (t := 1) I (by omega) hK (by omega) (fun r' dp' pa' wy' hr' => ?_)
      intro y ey
      rw [nI_1, show A.length + 1 = (A ++ [x]).length from by simp] at ey
      subst ey
      have sG2 := sG
      rw [e, List.pairwise_append, List.pairwise_cons] at sG2
      obtain ⟨n1, n2⟩ := ev_gb_G (A := A ++ [x]) (B := B) hG (by rw [e]; simp) sG (fun z hz => by
        rcases List.mem_append.mp hz with q | q
        · have := sG2.2.2 z q x (by simp); omega
        · have : z = x := by simpa using q
          omega) (fun z hz => sG2.2.1.1 z hz) (by omega) hr'
      refine ih (A ++ [x]) r' dp' pa' wy' (by rw [e]; simp) (fun z ez => ?_) n1 n2 (by simp; omega) (by simp; omega)
      subst ez
      exact hr'.1
theorem ev_freeX {post : Int32 → SX → Prop} {g k w : Nat} (P : ev_PX pc fb us ln sp ks bl sz lf nx pv sr rt) (hg : g < 3) (hk : k < 2 ^ 31) (hw : w < 2)
    (H : ∀ G dp' pa' wy', ev_gk (ev_Fo pc) g G → post (ev_fr G k w) (fb, sp, dp', kp, lg, ls, fd, mn, pc, us, it, ln, ks, bl, sz, lf, nx, pv, sr, rt, pa', wy', oa, ov, bg)) : wpX_free post (fb, sp, dp, kp, lg, ls, fd, mn, pc, us, it, ln, ks, bl, sz, lf, nx, pv, sr, rt, pa, wy, oa, ov, bg) (nI g) (nI k) (nI w) := by
  obtain ⟨gd, hu, K, X, I, hfb⟩ := P
  have K96 := ev_FX96 (F := ev_Fo pc) X I (fun x hx => hx)
  have K96' : (K 1).length ≤ 96 := by rw [← X.2.2.1]; exact K96
  have hK24 : ∀ z, z ∈ K 1 → z < 2 ^ 23 := by
    intro z hz
    obtain ⟨s, hs, ez⟩ := (X.2.1 z).mp hz
    have := hs.1
    have := ev_rl_le (ev_Fo pc) s
    rw [ez]
    unfold ev_ky
    omega
  have sK := ev_TI_sorted I (t := 1) (by omega)
  have hG : ∀ x, x ∈ (K 1).filter (fun x => decide (x / 65536 = g)) ↔ x ∈ K 1 ∧ x / 65536 = g := by
    intro x
    rw [List.mem_filter, decide_eq_true_iff]
  have sG : ((K 1).filter (fun x => decide (x / 65536 = g))).Pairwise (· < ·) := List.Pairwise.filter _ sK
  have gk : ev_gk (ev_Fo pc) g ((K 1).filter (fun x => decide (x / 65536 = g))) := by
    refine ⟨sG, fun x => ?_⟩
    rw [hG x, X.2.1 x]
    constructor
    · rintro ⟨⟨s, hs, e⟩, hx⟩
      refine ⟨s, hs, ?_, e⟩
      rw [e, (ev_ky_parts hs.1 (ev_rl_le _ s)).1] at hx
      exact hx
    · rintro ⟨s, hs, hsg, e⟩
      refine ⟨⟨s, hs, e⟩, ?_⟩
      rw [e, (ev_ky_parts hs.1 (ev_rl_le _ s)).1]
      exact hsg
  have hlen : ((K 1).filter (fun x => decide (x / 65536 = g))).length ≤ 96 := Nat.le_trans (List.length_filter_le _ _) K96'
  unfold wpX_free
  dsimp only
  refine ev_inX1 (n := 3) hg (by omega) (br_f (by decide) (br_f (nI_pos hk) ?_))
  refine ev_inX1 (n := 2) hw (by omega) (br_f (by decide) ?_)
  rw [pk_shlN ((16 : Int32) &&& 31) 16 (by decide) (by omega)]
  refine ev_notBelow (t := 1) (dp := dp) I (by omega) K96' (by omega) (fun r dp' pa' wy' hr => ?_)
  refine Exists.intro (((K 1).filter (fun x => decide (x / 65536 = g))).length + 1) ?_
  obtain ⟨n1, n2⟩ := ev_gb_G (A := []) (B := (K 1).filter (fun x => decide (x / 65536 = g))) (bd := g * 2 ^ 16) hG rfl sG (fun x hx => by simp at hx) (fun x hx => by have := ((hG x).mp hx).2; omega) (by omega) hr
  refine ev_free36 (G := (K 1).filter (fun x => decide (x / 65536 = g))) I K96' hK24 hg hk hw hG sG (fun dp2 pa2 wy2 => H _ dp2 pa2 wy2 gk) _ [] r dp' pa' wy' rfl (fun z ez => ?_) n1 n2 (by simp) (by simpa using hlen)
  subst ez
  exact hr.1
end
section
variable {yk yf yl : Int32} {ya yi ym yz : Nat → Int32}
theorem ev_begins {post : Int32 → Prop} {b : Nat} (h : ev_ct ya ym) (hb : b < 192) (H1 : ev_st (ev_Fo ya) b → post 1) (H0 : ¬ ev_st (ev_Fo ya) b → post 0) : wpY_begins post (yk, yf, yl, ya, yi, ym, yz) (nI b) := by
  refine And.intro (vp_in_nI hb (by omega)) (ev_ct0 h hb (fun hf => ⟨by decide, ?_⟩) (fun hf => H0 (fun s => by rw [s.2.1] at hf; simp at hf)))
  rw [ev_r64 (by omega)]
  by_cases c : b % 64 = 0
  · exact br_t (by rw [c]; rfl) (H1 ⟨hb, hf, Or.inl c⟩)
  · refine br_f (nI_ne0 (by omega) (by omega)) ?_
    rw [show nI b - 1 = nI (b - 1) from by rw [show b = (b - 1) + 1 from by omega, nI_pred, Nat.add_sub_cancel]]
    refine ⟨vp_in_nI (by omega) (by omega), ?_⟩
    have cl := ev_cu_le ya (b - 1) 512
    rw [nI_clamp (by omega), h (b - 1) (by omega)]
    by_cases c2 : ev_cu ya (b - 1) 512 = 0
    · refine br_t (by rw [c2]; exact nI_le (b := 0) (Nat.le_refl _) (by omega)) (H0 (fun s => ?_))
      rcases s.2.2 with e | e
      · exact c e
      · rw [ev_Fo_t.mpr c2] at e; simp at e
    · exact br_f (nI_ge (a := 0) (by omega) (by omega)) (H1 ⟨hb, hf, Or.inr (ev_Fo_f.mpr c2)⟩)
theorem ev_free45 {post : Int32 → SY → Prop} {J : Int32 → Int32 → Prop} {g k w size : Nat} {G : List Nat} (h : ev_ct ya ym) (hG : ev_gk (ev_Fo ya) g G) (hg : g < 3) (hk : k < 2 ^ 31) (hw : w < 2) (hs1 : 1 ≤ size) (hs : size ≤ 64)
    (H : post (ev_fr G k w) (yk, yf, yl, ya, yi, ym, yz))
    (HJ : ∀ A B, G = A ++ B → A.length ≤ k → (∀ x, x ∈ A → x < g * 65536 + size * 256 + (64 * g + 64)) → (∀ x, x ∈ B → g * 65536 + size * 256 + (64 * g + 64) ≤ x) → J (nI A.length) (nI (size + 1))) :
    ∀ (d b : Nat) (A B : List Nat), b + d = 64 * g + 64 → 64 * g ≤ b → G = A ++ B → A.length ≤ k → A.length + B.length ≤ 96 → (∀ x, x ∈ A → x < g * 65536 + size * 256 + b) → (∀ x, x ∈ B → g * 65536 + size * 256 + b ≤ x) →
    wY_free_45 post J (nI g) (nI k) (nI w) (nI size) yk yf yl ya yi ym yz (d + 1) (nI A.length) (nI b) := by
  have e64 : (64 : Int32) * nI g + 64 = nI (64 * g + 64) := by
    show nI 64 * nI g + nI 64 = _
    rw [pk_mul, nI_add]
  intro d
  induction d with
  | zero =>
    intro b A B hb hb2 e hj hl hA hB
    have : b = 64 * g + 64 := by omega
    subst this
    refine br_t (by rw [e64]; exact nI_le (Nat.le_refl _) (by omega)) (fun y ey => ?_)
    rw [nI_1] at ey
    subst ey
    exact HJ A B e hj hA hB
  | succ d ih =>
    intro b A B hb hb2 e hj hl hA hB
    have b192 : b < 192 := by omega
    -- the key of block b with this size is not there: onwards
    have skip : ¬ (ev_st (ev_Fo ya) b ∧ ev_rl (ev_Fo ya) b = size) → ∀ y : Int32, y = nI b + 1 → wY_free_45 post J (nI g) (nI k) (nI w) (nI size) yk yf yl ya yi ym yz (d + 1) (nI A.length) y := by
      intro hno y ey
      rw [nI_1] at ey
      subst ey
      refine ih (b + 1) A B (by omega) (by omega) e hj hl (fun x hx => by have := hA x hx; omega) (fun x hx => ?_)
      have q := hB x hx
      by_cases c : x = g * 65536 + size * 256 + b
      · exfalso
        obtain ⟨s, hs', hsg, ex⟩ := (hG.2 x).mp (by rw [e]; simp [hx])
        have l := ev_rl_le (ev_Fo ya) s
        have sl := hs'.1
        have eq : ev_ky s (ev_rl (ev_Fo ya) s) = ev_ky b size := by
          rw [← ex, c]
          unfold ev_ky
          omega
        obtain ⟨e1, e2⟩ := ev_ky_inj sl b192 l hs eq
        subst e1
        exact hno ⟨hs', e2⟩
      · omega
    refine br_f (by rw [e64]; exact nI_ge (by omega) (by omega)) ?_
    refine ev_begins h b192 (fun hst => br_f (by decide) ?_) (fun hst => br_t rfl (skip (fun q => hst q.1)))
    refine ev_freeFrom h b192 ?_
    have l64 := ev_rl_le (ev_Fo ya) b
    by_cases c : ev_rl (ev_Fo ya) b = size
    · refine br_t (by rw [c]) ?_
      have hx : ev_ky b size ∈ G := (hG.2 _).mpr ⟨b, hst, by omega, by rw [c]⟩
      have code : ev_ky b size = g * 65536 + size * 256 + b := by unfold ev_ky; omega
      cases B with
      | nil =>
        rw [e, List.append_nil] at hx
        have := hA _ hx
        omega
      | cons x B' =>
        have sG := hG.1
        rw [e, List.pairwise_append, List.pairwise_cons] at sG
        have ex : x = ev_ky b size := by
          rw [e] at hx
          rcases List.mem_append.mp hx with q | q
          · have := hA _ q; omega
          · rcases List.mem_cons.mp q with q | q
            · exact q.symm
            · have a1 := sG.2.1.1 _ q
              have a2 := hB x (by simp)
              omega
        rw [List.length_cons] at hl
        by_cases c2 : A.length = k
        · refine br_t (by rw [c2]) ?_
          obtain ⟨p1, p2, p3⟩ := ev_ky_parts b192 hs
          rw [e, ← c2, ev_fr_mid, ex, p3, p2] at H
          by_cases c3 : w = 0
          · rw [if_pos c3] at H
            exact br_t (by rw [c3]; rfl) H
          · rw [if_neg c3] at H
            exact br_f (nI_ne0 (by omega) (by omega)) H
        · refine br_f (fun q => c2 ((nI_eq (by omega) (by omega)).mp q)) (fun z ez y ey => ?_)
          rw [nI_1, show A.length + 1 = (A ++ [x]).length from by simp] at ez
          rw [nI_1] at ey
          subst ez
          subst ey
          refine ih (b + 1) (A ++ [x]) B' (by omega) (by omega) (by rw [e]; simp) (by simp; omega) (by simp; omega) (fun z hz => ?_) (fun z hz => ?_)
          · rcases List.mem_append.mp hz with q | q
            · have := hA z q; omega
            · have : z = x := by simpa using q
              omega
          · have := sG.2.1.1 z hz; omega
    · exact br_f (fun q => c ((nI_eq (by omega) (by omega)).mp q)) (skip (fun q => c q.2))
theorem ev_free32 {post : Int32 → SY → Prop} {g k w : Nat} {G : List Nat} (h : ev_ct ya ym) (hG : ev_gk (ev_Fo ya) g G) (hlen : G.length ≤ 96) (hg : g < 3) (hk : k < 2 ^ 31) (hw : w < 2) (H : post (ev_fr G k w) (yk, yf, yl, ya, yi, ym, yz)) :
    ∀ (d size : Nat) (A B : List Nat), size + d = 65 → 1 ≤ size → G = A ++ B → A.length ≤ k → (∀ x, x ∈ A → x < g * 65536 + size * 256 + 64 * g) → (∀ x, x ∈ B → g * 65536 + size * 256 + 64 * g ≤ x) →
    wY_free_32 post (nI g) (nI k) (nI w) yk yf yl ya yi ym yz (d + 1) (nI A.length) (nI size) := by
  have mem : ∀ x, x ∈ G → ∃ s l, s / 64 = g ∧ l ≤ 64 ∧ x = g * 65536 + l * 256 + s := by
    intro x hx
    obtain ⟨s, hs, hsg, e⟩ := (hG.2 x).mp hx
    refine ⟨s, ev_rl (ev_Fo ya) s, hsg, ev_rl_le _ s, ?_⟩
    rw [e]
    unfold ev_ky
    rw [hsg]
  intro d
  induction d with
  | zero =>
    intro size A B hsz h1 e hj hA hB
    have : size = 65 := by omega
    subst this
    have hBn : B = [] := by
      cases B with
      | nil => rfl
      | cons x B' =>
        obtain ⟨s, l, q1, q2, q3⟩ := mem x (by rw [e]; simp)
        have := hB x (by simp)
        omega
    rw [e, hBn, List.append_nil, ev_fr_end hj] at H
    exact br_t (nI_lt (a := 64) (by omega) (by omega)) H
  | succ d ih =>
    intro size A B hsz h1 e hj hA hB
    refine br_f (nI_nlt (b := size) (a := 64) (by omega) (by omega)) (fun y ey => Exists.intro 65 ?_)
    have ey' : y = nI (64 * g) := by rw [ey]; exact pk_mul 64 g
    subst ey'
    have hl2 : A.length + B.length ≤ 96 := by rw [e, List.length_append] at hlen; exact hlen
    refine ev_free45 h hG hg hk hw h1 (by omega) H (fun A' B' e' hj' hA' hB' => ?_) 64 (64 * g) A B (by omega) (by omega) e hj hl2 hA hB
    refine ih (size + 1) A' B' (by omega) (by omega) e' hj' (fun x hx => by have := hA' x hx; omega) (fun x hx => ?_)
    obtain ⟨s, l, q1, q2, q3⟩ := mem x (by rw [e']; simp [hx])
    have := hB' x hx
    omega
theorem ev_freeY {post : Int32 → SY → Prop} {g k w : Nat} {G : List Nat} (gd : ev_gd ya) (hG : ev_gk (ev_Fo ya) g G) (hg : g < 3) (hk : k < 2 ^ 31) (hw : w < 2) (H : ∀ ym', post (ev_fr G k w) (yk, yf, yl, ya, yi, ym', yz)) : wpY_free post (yk, yf, yl, ya, yi, ym, yz) (nI g) (nI k) (nI w) := by
  have hlen : G.length ≤ 96 := by
    have p : (G.map (· % 256)).length ≤ 96 := by
      have e : G.length ≤ 96 := by
        have nd : (G.map (fun x => x % 256 / 2)).Nodup := by
          rw [List.nodup_iff_pairwise_ne, List.pairwise_map]
          refine hG.1.imp_of_mem (fun {a b} ha hb lt q => ?_)
          obtain ⟨s, hs, hsg, ea⟩ := (hG.2 a).mp ha
          obtain ⟨s', hs', hsg', eb⟩ := (hG.2 b).mp hb
          have pa := (ev_ky_parts hs.1 (ev_rl_le (ev_Fo ya) s)).2.2
          have pb := (ev_ky_parts hs'.1 (ev_rl_le (ev_Fo ya) s')).2.2
          rw [← ea] at pa
          rw [← eb] at pb
          rw [pa, pb] at q
          rcases Nat.lt_trichotomy s s' with c | c | c
          · have := ev_st_half hs hs' c; omega
          · subst c
            omega
          · have := ev_st_half hs' hs c; omega
        have sub : (G.map (fun x => x % 256 / 2)) ⊆ List.range 96 := by
          intro y hy
          obtain ⟨x, hx, rfl⟩ := List.mem_map.mp hy
          obtain ⟨s, hs, hsg, ea⟩ := (hG.2 x).mp hx
          have pa := (ev_ky_parts hs.1 (ev_rl_le (ev_Fo ya) s)).2.2
          rw [← ea] at pa
          have := hs.1
          rw [List.mem_range]
          show x % 256 / 2 < 96
          omega
        have := List.Nodup.length_le_of_subset nd sub
        simpa using this
      simpa using e
    simpa using p
  unfold wpY_free
  dsimp only
  refine ev_inY1 (n := 3) hg (by omega) (br_f (by decide) ?_)
  refine ev_inY1 (n := 2) hw (by omega) (br_f (by decide) (br_t (nI_pos' hk) ?_))
  refine ev_count gd (fun ym' h => Exists.intro 65 ?_)
  refine ev_free32 (ym := ym') h hG hlen hg hk hw (H ym') 64 1 [] G (by omega) (by omega) rfl (by simp) (fun x hx => by simp at hx) (fun x hx => ?_)
  obtain ⟨s, hs, hsg, ea⟩ := (hG.2 x).mp hx
  have := ev_rl_pos hs.2.1
  rw [ea]
  unfold ev_ky
  omega
end
theorem i_vc_free {k : Nat} {u : SX} {v : SY} (I : i_Rel k u v) (hk : k + 5 ≤ 2560) (v1 : Int32) (v2 : Int32) (v3 : Int32) : wpX_free (fun r u' => wpY_free (fun r' v' => r' = r ∧ i_Rel (k + 5) u' v') v v1 v2 v3) u v1 v2 v3 := by
  refine ev_el (P := fun u v => wpX_free (fun r u' => wpY_free (fun r' v' => r' = r ∧ i_Rel (k + 5) u' v') v v1 v2 v3) u v1 v2 v3) I ?_
  intro fb sp dp kp lg ls fd mn pc us it ln ks bl sz lf nx pv sr rt pa wy oa ov bg yk yf yl ya yi ym yz R
  have R0 := R
  obtain ⟨c, g, β, HP, HI, r1, r2, r3, r4, r5, r6, r7, r8, r⟩ := R
  by_cases c1 : ∃ j, j < 3 ∧ v1 = nI j
  · obtain ⟨gr, hg, e1⟩ := c1
    subst e1
    by_cases c2 : v2 < 0
    · unfold wpX_free wpY_free
      dsimp only
      refine ev_inX1 (n := 3) hg (by omega) (br_f (by decide) (br_t c2 ?_))
      refine ev_inY1 (n := 3) hg (by omega) (br_f (by decide) ?_)
      by_cases c3 : ∃ j, j < 2 ∧ v3 = nI j
      · obtain ⟨w, hw, e3⟩ := c3
        subst e3
        exact ev_inY1 (n := 2) hw (by omega) (br_f (by decide) (br_f (Int32.not_le.mpr c2) ⟨rfl, R0⟩))
      · exact ev_inY0 (n := 2) (by omega) c3 (br_t rfl ⟨rfl, R0⟩)
    · obtain ⟨kk, hkk, e2⟩ := nI_of c2
      subst e2
      by_cases c3 : ∃ j, j < 2 ∧ v3 = nI j
      · obtain ⟨w, hw, e3⟩ := c3
        subst e3
        subst r5
        exact ev_freeX r8 hg hkk hw (fun G dp' pa' wy' hG => ev_freeY r8.1 hG hg hkk hw (fun ym' => ⟨rfl, R0⟩))
      · unfold wpX_free wpY_free
        dsimp only
        refine ev_inX1 (n := 3) hg (by omega) (br_f (by decide) (br_f c2 (ev_inX0 (n := 2) (by omega) c3 (br_t rfl ?_))))
        exact ev_inY1 (n := 3) hg (by omega) (br_f (by decide) (ev_inY0 (n := 2) (by omega) c3 (br_t rfl ⟨rfl, R0⟩)))
  · unfold wpX_free wpY_free
    dsimp only
    exact ev_inX0 (n := 3) (by omega) c1 (br_t rfl (ev_inY0 (n := 3) (by omega) c1 (br_t rfl ⟨rfl, R0⟩)))
end
section
/-! room -/
def ev_sB (F : Nat → Bool) (b : Nat) : Bool := decide (b < 192) && F b && (decide (b % 64 = 0) || !F (b - 1))
theorem ev_sB_t {F : Nat → Bool} {b : Nat} : ev_sB F b = true ↔ ev_st F b := by
  unfold ev_sB ev_st
  rw [Bool.and_eq_true, Bool.and_eq_true, Bool.or_eq_true, decide_eq_true_iff, decide_eq_true_iff, Bool.not_eq_true', and_assoc]
theorem ev_cn_gap {G : Nat → Bool} {e : Nat} : ∀ {d}, (∀ z, e ≤ z → z < e + d → G z = false) → ev_cn G (e + d) = ev_cn G e
  | 0, _ => rfl
  | d + 1, h => by
      show ev_cn G (e + d) + (if G (e + d) = true then 1 else 0) = _
      rw [h (e + d) (by omega) (by omega), ev_cn_gap (fun z h1 h2 => h z h1 (by omega))]
      simp
theorem ev_cn_run {G : Nat → Bool} {s : Nat} : ∀ {l}, (∀ j, j < l → G (s + j) = true) → ev_cn G (s + l) = ev_cn G s + l
  | 0, _ => rfl
  | l + 1, h => by
      show ev_cn G (s + l) + (if G (s + l) = true then 1 else 0) = _
      rw [if_pos (h l (by omega)), ev_cn_run (fun j hj => h j (by omega))]
      omega
theorem ev_cn_mono (G : Nat → Bool) {a : Nat} : ∀ {d}, ev_cn G a ≤ ev_cn G (a + d)
  | 0 => Nat.le_refl _
  | d + 1 => by
      have := ev_cn_mono G (a := a) (d := d)
      show ev_cn G a ≤ ev_cn G (a + d) + (if G (a + d) = true then 1 else 0)
      omega
def ev_rg (f t : Nat) (G : Nat → Bool) (b : Nat) : Bool := decide (f ≤ b ∧ b < t) && G b
theorem ev_rg_cn {G : Nat → Bool} {f t : Nat} (h1 : f ≤ t) (h2 : t ≤ 192) : ev_cn (ev_rg f t G) 192 + ev_cn G f = ev_cn G t := by
  have a : ev_cn (ev_rg f t G) f = 0 := by
    have := ev_cn_gap (G := ev_rg f t G) (e := 0) (d := f) (fun z _ hz => by unfold ev_rg; rw [decide_eq_false (by omega)]; rfl)
    rw [Nat.zero_add] at this
    exact this
  have b : ∀ d, f + d ≤ t → ev_cn (ev_rg f t G) (f + d) + ev_cn G f = ev_cn G (f + d) := by
    intro d
    induction d with
    | zero => intro _; rw [Nat.add_zero, a]; omega
    | succ d ih =>
      intro hd
      have ih := ih (by omega)
      show ev_cn (ev_rg f t G) (f + d) + (if ev_rg f t G (f + d) = true then 1 else 0) + _ = ev_cn G (f + d) + (if G (f + d) = true then 1 else 0)
      have e : ev_rg f t G (f + d) = G (f + d) := by unfold ev_rg; rw [decide_eq_true (by omega)]; rfl
      rw [e]; omega
  have c := ev_cn_gap (G := ev_rg f t G) (e := t) (d := 192 - t) (fun z hz _ => by unfold ev_rg; rw [decide_eq_false (by omega)]; rfl)
  rw [show t + (192 - t) = 192 from by omega] at c
  have := b (t - f) (by omega)
  rw [show f + (t - f) = t from by omega] at this
  omega
/-- no free block and no start ahead of the next start -/
theorem ev_gap {F : Nat → Bool} {e y : Nat} (hb : e % 64 = 0 ∨ F e = false) (hy : y ≤ 192) (hey : e ≤ y) (h : ∀ z, ev_st F z → e ≤ z → y ≤ z) : ev_cn F y = ev_cn F e ∧ ev_cn (ev_sB F) y = ev_cn (ev_sB F) e := by
  have hf : ∀ z, e ≤ z → z < y → F z = false := by
    intro z h1 h2
    refine ev_nt (fun hz => ?_)
    obtain ⟨t, t1, t2, t3, t4⟩ := ev_run (by omega) hz
    by_cases c : e ≤ t
    · have := h t t1 c; omega
    · rcases hb with q | q
      · omega
      · rw [t4 e (by omega) h1] at q; simp at q
  have a := ev_cn_gap (G := F) (e := e) (d := y - e) (fun z h1 h2 => hf z h1 (by omega))
  have b := ev_cn_gap (G := ev_sB F) (e := e) (d := y - e) (fun z h1 h2 => ev_nt (fun q => by
    have := (ev_sB_t.mp q).2.1
    rw [hf z h1 (by omega)] at this; simp at this))
  rw [show e + (y - e) = y from by omega] at a b
  exact ⟨a, b⟩
section
variable {fb sp dp kp lg ls fd mn : Int32} {pc us it ln ks bl sz lf nx pv sr rt pa wy oa ov bg : Nat → Int32}
theorem ev_room65 {post : Int32 → SX → Prop} {F : Nat → Bool} {K : Nat → List Nat} {f t w : Nat} (X : ev_FX (ev_st F) (ev_rl F) K ln) (I : ev_TI K sp ks bl sz lf nx pv sr rt) (ht : t ≤ 192) (ht64 : t % 64 = 0) (hft : f ≤ t) (hw : w < 2)
    (H : ∀ dp' pa' wy', post (nI (if w = 0 then ev_cn (ev_sB F) t - ev_cn (ev_sB F) f else ev_cn F t - ev_cn F f)) (fb, sp, dp', kp, lg, ls, fd, mn, pc, us, it, ln, ks, bl, sz, lf, nx, pv, sr, rt, pa', wy', oa, ov, bg)) :
    ∀ (d e : Nat) (r : Option Nat) (dp : Int32) (pa wy : Nat → Int32), t ≤ e + d → f ≤ e → e ≤ t → (e % 64 = 0 ∨ F e = false) → ev_gb (K 0) e r →
    wX_room_65 post (nI w) (nI t) (d + 1) (nI (ev_cn (ev_sB F) e - ev_cn (ev_sB F) f)) (nI (ev_cn F e - ev_cn F f)) (ev_o r) fb sp dp kp lg ls fd mn pc us it ln ks bl sz lf nx pv sr rt pa wy oa ov bg := by
  have K96 := ev_FX96 (F := F) X I (fun x hx => hx)
  have fin : ∀ (e : Nat) (dp : Int32) (pa wy : Nat → Int32), e ≤ t → (e % 64 = 0 ∨ F e = false) → (∀ z, ev_st F z → e ≤ z → t ≤ z) →
      wX_room_106 post (nI w) (nI (ev_cn (ev_sB F) e - ev_cn (ev_sB F) f)) (nI (ev_cn F e - ev_cn F f)) fb sp dp kp lg ls fd mn pc us it ln ks bl sz lf nx pv sr rt pa wy oa ov bg := by
    intro e dp pa wy het hb h
    obtain ⟨a, b⟩ := ev_gap hb ht het h
    rw [← a, ← b]
    have H := H dp pa wy
    by_cases c : w = 0
    · rw [if_pos c] at H
      exact br_t (by rw [c]; rfl) H
    · rw [if_neg c] at H
      exact br_f (nI_ne0 (by omega) (by omega)) H
  have step : ∀ (d e : Nat) (r : Option Nat) (dp : Int32) (pa wy : Nat → Int32), f ≤ e → e ≤ t → (e % 64 = 0 ∨ F e = false) → ev_gb (K 0) e r →
      (∀ s e' r' dp' pa' wy', r = some s → s < t → e' = s + ev_rl F s → ev_gb (K 0) e' r' → wX_room_65 post (nI w) (nI t) d (nI (ev_cn (ev_sB F) e' - ev_cn (ev_sB F) f)) (nI (ev_cn F e' - ev_cn F f)) (ev_o r') fb sp dp' kp lg ls fd mn pc us it ln ks bl sz lf nx pv sr rt pa' wy' oa ov bg) →
      wX_room_65 post (nI w) (nI t) (d + 1) (nI (ev_cn (ev_sB F) e - ev_cn (ev_sB F) f)) (nI (ev_cn F e - ev_cn F f)) (ev_o r) fb sp dp kp lg ls fd mn pc us it ln ks bl sz lf nx pv sr rt pa wy oa ov bg := by
    intro d e r dp pa wy hfe het hb hr HN
    cases r with
    | none =>
      refine br_t (show (-1 : Int32) < 0 by decide) (fin e dp pa wy het hb (fun z hz hez => ?_))
      have := hr z ((X.1 z).mpr hz)
      omega
    | some s =>
      obtain ⟨s1, s2, s3⟩ := hr
      have hs := (X.1 s).mp s1
      have s192 := hs.1
      refine br_f (show ¬ nI s < 0 from nI_pos (by omega)) ?_
      by_cases c : t ≤ s
      · refine br_t (nI_le c (by omega)) (fin e dp pa wy het hb (fun z hz hez => ?_))
        have := s3 z ((X.1 z).mpr hz) hez
        omega
      · obtain ⟨q1, q2, q3, q4⟩ := X.2.2.2 s hs
        obtain ⟨m1, m2, m3⟩ := ev_rl_ok F s
        obtain ⟨g1, g2⟩ := ev_gap (y := s) hb (by omega) s2 (fun z hz hez => s3 z ((X.1 z).mpr hz) hez)
        have r1 := ev_cn_run (G := F) (s := s) (l := ev_rl F s) m1
        -- within a run there is one start
        have nost : ∀ z, s + 1 ≤ z → z < s + 1 + (ev_rl F s - 1) → ev_sB F z = false := by
          intro z h1 h2
          refine ev_nt (fun q => ?_)
          rcases (ev_sB_t.mp q).2.2 with e2 | e2
          · omega
          · have := m1 (z - 1 - s) (by omega)
            rw [show s + (z - 1 - s) = z - 1 from by omega, e2] at this
            simp at this
        have r2 : ev_cn (ev_sB F) (s + ev_rl F s) = ev_cn (ev_sB F) s + 1 := by
          have a := ev_cn_gap (G := ev_sB F) (e := s + 1) (d := ev_rl F s - 1) nost
          rw [show s + 1 + (ev_rl F s - 1) = s + ev_rl F s from by omega] at a
          rw [a]
          show ev_cn (ev_sB F) s + (if ev_sB F s = true then 1 else 0) = _
          rw [if_pos (ev_sB_t.mpr hs)]
        have mf : ev_cn F f ≤ ev_cn F e := by
          have := ev_cn_mono F (a := f) (d := e - f)
          rw [show f + (e - f) = e from by omega] at this
          exact this
        have ms : ev_cn (ev_sB F) f ≤ ev_cn (ev_sB F) e := by
          have := ev_cn_mono (ev_sB F) (a := f) (d := e - f)
          rw [show f + (e - f) = e from by omega] at this
          exact this
        refine br_f (nI_ge (by omega) (by omega)) (fun x ex => ⟨vp_in_nI (by omega) (by omega), fun a ea => ?_⟩)
        rw [nI_1] at ex
        rw [show (ev_o (some s)).toNatClampNeg = s from nI_clamp (by omega), q4, nI_add] at ea
        subst ex
        subst ea
        show wpX_notBelow _ _ 0 (nI s + 1)
        rw [nI_1 s]
        refine ev_notBelow (t := 0) I (by omega) K96 (by omega) (fun r' dp' pa' wy' hr' => ?_)
        have e1 : ev_cn (ev_sB F) e - ev_cn (ev_sB F) f + 1 = ev_cn (ev_sB F) (s + ev_rl F s) - ev_cn (ev_sB F) f := by omega
        have e2 : ev_cn F e - ev_cn F f + ev_rl F s = ev_cn F (s + ev_rl F s) - ev_cn F f := by omega
        rw [e1, e2]
        refine HN s (s + ev_rl F s) r' dp' pa' wy' rfl (by omega) rfl ?_
        cases r' with
        | none => intro y hy; have := hr' y hy; omega
        | some y =>
          obtain ⟨y1, y2, y3⟩ := hr'
          refine ⟨y1, ?_, fun z hz hez => y3 z hz (by omega)⟩
          by_cases c2 : s + ev_rl F s ≤ y
          · exact c2
          · have := nost y y2 (by omega)
            rw [ev_sB_t.mpr ((X.1 y).mp y1)] at this
            simp at this
  intro d
  induction d with
  | zero =>
    intro e r dp pa wy h1 h2 h3 h4 h5
    refine step 0 e r dp pa wy h2 h3 h4 h5 (fun s e' r' dp' pa' wy' er hst ee hr' => ?_)
    subst er
    have := h5.2.1
    omega
  | succ d ih =>
    intro e r dp pa wy h1 h2 h3 h4 h5
    refine step (d + 1) e r dp pa wy h2 h3 h4 h5 (fun s e' r' dp' pa' wy' er hst ee hr' => ?_)
    subst er
    have hs := (X.1 s).mp h5.1
    have hse := h5.2.1
    have p := ev_rl_pos hs.2.1
    obtain ⟨m1, m2, m3⟩ := ev_rl_ok F s
    refine ih e' r' dp' pa' wy' (by omega) (by omega) (by omega) ?_ hr'
    rcases m3 with q | q
    · left; omega
    · right; rw [ee]; exact q
/-- from where to where a group goes; 3 is all of them -/
def ev_gf (g : Nat) : Nat := if g = 3 then 0 else 64 * g
def ev_gt (g : Nat) : Nat := if g = 3 then 192 else 64 * g + 64
theorem ev_roomX {post : Int32 → SX → Prop} {g w : Nat} (P : ev_PX pc fb us ln sp ks bl sz lf nx pv sr rt) (hg : g < 4) (hw : w < 2)
    (H : ∀ dp' pa' wy', post (nI (if w = 0 then ev_cn (ev_sB (ev_Fo pc)) (ev_gt g) - ev_cn (ev_sB (ev_Fo pc)) (ev_gf g) else ev_cn (ev_Fo pc) (ev_gt g) - ev_cn (ev_Fo pc) (ev_gf g))) (fb, sp, dp', kp, lg, ls, fd, mn, pc, us, it, ln, ks, bl, sz, lf, nx, pv, sr, rt, pa', wy', oa, ov, bg)) : wpX_room post (fb, sp, dp, kp, lg, ls, fd, mn, pc, us, it, ln, ks, bl, sz, lf, nx, pv, sr, rt, pa, wy, oa, ov, bg) (nI g) (nI w) := by
  obtain ⟨gd, hu, K, X, I, hfb⟩ := P
  have K96 := ev_FX96 (F := ev_Fo pc) X I (fun x hx => hx)
  have main : ∀ f t : Nat, f % 64 = 0 → t % 64 = 0 → f ≤ t → t ≤ 192 → f = ev_gf g → t = ev_gt g → wX_room_54 post (nI w) 0 0 (nI f) (nI t) fb sp dp kp lg ls fd mn pc us it ln ks bl sz lf nx pv sr rt pa wy oa ov bg := by
    intro f t h1 h2 h3 h4 ef et
    refine ev_notBelow (t := 0) (dp := dp) I (by omega) K96 (by omega) (fun r dp' pa' wy' hr => Exists.intro (t - f + 1) ?_)
    have := ev_room65 (post := post) (kp := kp) (lg := lg) (ls := ls) (fd := fd) (mn := mn) (pc := pc) (us := us) (it := it) (oa := oa) (ov := ov) (bg := bg) (f := f) (t := t) (w := w) X I h4 h2 h3 hw (fun dp2 pa2 wy2 => by rw [ef, et]; exact H dp2 pa2 wy2) (t - f) f r dp' pa' wy' (by omega) (Nat.le_refl _) h3 (Or.inl h1) hr
    rw [Nat.sub_self, Nat.sub_self] at this
    exact this
  unfold wpX_room
  dsimp only
  refine ev_inX1 (n := 4) hg (by omega) (br_f (by decide) ?_)
  refine ev_inX1 (n := 2) hw (by omega) (br_f (by decide) ?_)
  by_cases c : g = 3
  · refine br_t (by rw [c]; rfl) (br_t (by rw [c]; rfl) ?_)
    exact main 0 192 (by omega) (by omega) (by omega) (by omega) (by unfold ev_gf; rw [if_pos c]) (by unfold ev_gt; rw [if_pos c])
  · have hne : ¬ nI g = 3 := fun e => c ((nI_eq (b := 3) (by omega) (by omega)).mp e)
    refine br_f hne (br_f hne ?_)
    have e1 : (64 : Int32) * nI g = nI (64 * g) := pk_mul 64 g
    have e2 : nI (64 * g) + (64 : Int32) = nI (64 * g + 64) := nI_add _ 64
    rw [e1, e2]
    exact main (64 * g) (64 * g + 64) (by omega) (by omega) (by omega) (by omega) (by unfold ev_gf; rw [if_neg c]) (by unfold ev_gt; rw [if_neg c])
end
section
variable {yk yf yl : Int32} {ya yi ym yz : Nat → Int32}
theorem ev_room27 {post : Int32 → SY → Prop} {g w : Nat} (h : ev_ct ya ym) (hg : g < 4) (hw : w < 2)
    (H : post (nI (ev_cn (ev_rg (ev_gf g) (ev_gt g) (if w = 0 then ev_sB (ev_Fo ya) else ev_Fo ya)) 192)) (yk, yf, yl, ya, yi, ym, yz)) :
    ∀ (d b : Nat), b + d = 192 → wY_room_27 post (nI g) (nI w) yk yf yl ya yi ym yz (d + 1) (nI (ev_cn (ev_rg (ev_gf g) (ev_gt g) (if w = 0 then ev_sB (ev_Fo ya) else ev_Fo ya)) b)) (nI b) := by
  intro d
  induction d with
  | zero =>
    intro b hb
    have : b = 192 := by omega
    subst this
    exact br_t (nI_le (a := 192) (Nat.le_refl _) (by omega)) H
  | succ d ih =>
    intro b hb
    have nxt := ih (b + 1) (by omega)
    have st : ev_cn (ev_rg (ev_gf g) (ev_gt g) (if w = 0 then ev_sB (ev_Fo ya) else ev_Fo ya)) (b + 1) = ev_cn (ev_rg (ev_gf g) (ev_gt g) (if w = 0 then ev_sB (ev_Fo ya) else ev_Fo ya)) b + (if ev_rg (ev_gf g) (ev_gt g) (if w = 0 then ev_sB (ev_Fo ya) else ev_Fo ya) b = true then 1 else 0) := rfl
    generalize ev_cn (ev_rg (ev_gf g) (ev_gt g) (if w = 0 then ev_sB (ev_Fo ya) else ev_Fo ya)) b = n at st ⊢
    have zero : ev_rg (ev_gf g) (ev_gt g) (if w = 0 then ev_sB (ev_Fo ya) else ev_Fo ya) b = false → ∀ y : Int32, y = nI b + 1 → wY_room_27 post (nI g) (nI w) yk yf yl ya yi ym yz (d + 1) (nI n) y := by
      intro hw y ey
      rw [nI_1] at ey
      subst ey
      rw [hw] at st
      rw [st] at nxt
      exact nxt
    have one : ev_rg (ev_gf g) (ev_gt g) (if w = 0 then ev_sB (ev_Fo ya) else ev_Fo ya) b = true → ∀ x : Int32, x = nI n + 1 → ∀ y : Int32, y = nI b + 1 → wY_room_27 post (nI g) (nI w) yk yf yl ya yi ym yz (d + 1) x y := by
      intro hw x ex y ey
      rw [nI_1] at ex ey
      subst ex
      subst ey
      rw [hw] at st
      rw [st] at nxt
      exact nxt
    have inr : (ev_gf g ≤ b ∧ b < ev_gt g) → wY_room_49 post (wY_room_27 post (nI g) (nI w) yk yf yl ya yi ym yz (d + 1)) (nI g) (nI w) (nI n) (nI b) yk yf yl ya yi ym yz := by
      intro hr
      have eG : ∀ G : Nat → Bool, ev_rg (ev_gf g) (ev_gt g) G b = G b := fun G => by unfold ev_rg; rw [decide_eq_true hr]; rfl
      rw [eG] at zero one
      by_cases c : w = 0
      · rw [if_pos c] at zero one
        refine br_t (by rw [c]; rfl) ?_
        exact ev_begins h (by omega) (fun hs => br_f (by decide) (one (ev_sB_t.mpr hs))) (fun hs => br_t rfl (zero (ev_nt (fun q => hs (ev_sB_t.mp q)))))
      · rw [if_neg c] at zero one
        refine br_f (nI_ne0 (by omega) (by omega)) ⟨vp_in_nI (by omega) (by omega), ?_⟩
        exact ev_ct0 h (by omega) one zero
    refine br_f (nI_ge (b := 192) (by omega) (by omega)) ?_
    by_cases c : g = 3
    · refine br_t (by rw [c]; rfl) (inr ?_)
      unfold ev_gf ev_gt
      rw [if_pos c, if_pos c]; omega
    · refine br_f (fun e => c ((nI_eq (b := 3) (by omega) (by omega)).mp e)) ⟨by decide, ?_⟩
      rw [ev_d64 (by omega)]
      by_cases c2 : b / 64 = g
      · refine br_t (by rw [c2]) (inr ?_)
        unfold ev_gf ev_gt
        rw [if_neg c, if_neg c]; omega
      · refine br_f (fun e => c2 ((nI_eq (by omega) (by omega)).mp e)) (zero ?_)
        unfold ev_rg ev_gf ev_gt
        rw [if_neg c, if_neg c, decide_eq_false (by omega)]; rfl
theorem ev_roomY {post : Int32 → SY → Prop} {g w : Nat} (gd : ev_gd ya) (hg : g < 4) (hw : w < 2)
    (H : ∀ ym', post (nI (ev_cn (ev_rg (ev_gf g) (ev_gt g) (if w = 0 then ev_sB (ev_Fo ya) else ev_Fo ya)) 192)) (yk, yf, yl, ya, yi, ym', yz)) : wpY_room post (yk, yf, yl, ya, yi, ym, yz) (nI g) (nI w) := by
  unfold wpY_room
  dsimp only
  refine ev_inY1 (n := 4) hg (by omega) (br_f (by decide) ?_)
  refine ev_inY1 (n := 2) hw (by omega) (br_f (by decide) ?_)
  refine ev_count gd (fun ym' h => Exists.intro 193 ?_)
  exact ev_room27 (ym := ym') h hg hw (H ym') 192 0 (by omega)
end
theorem i_vc_room {k : Nat} {u : SX} {v : SY} (I : i_Rel k u v) (hk : k + 5 ≤ 2560) (v1 : Int32) (v2 : Int32) : wpX_room (fun r u' => wpY_room (fun r' v' => r' = r ∧ i_Rel (k + 5) u' v') v v1 v2) u v1 v2 := by
  refine ev_el (P := fun u v => wpX_room (fun r u' => wpY_room (fun r' v' => r' = r ∧ i_Rel (k + 5) u' v') v v1 v2) u v1 v2) I ?_
  intro fb sp dp kp lg ls fd mn pc us it ln ks bl sz lf nx pv sr rt pa wy oa ov bg yk yf yl ya yi ym yz R
  have R0 := R
  obtain ⟨c, g, β, HP, HI, r1, r2, r3, r4, r5, r6, r7, r8, r⟩ := R
  by_cases c1 : ∃ j, j < 4 ∧ v1 = nI j
  · obtain ⟨gr, hg, e1⟩ := c1
    subst e1
    by_cases c3 : ∃ j, j < 2 ∧ v2 = nI j
    · obtain ⟨w, hw, e3⟩ := c3
      subst e3
      subst r5
      refine ev_roomX r8 hg hw (fun dp' pa' wy' => ev_roomY r8.1 hg hw (fun ym' => ⟨?_, R0⟩))
      have b1 : ev_gf gr ≤ ev_gt gr := by unfold ev_gf ev_gt; split <;> omega
      have b2 : ev_gt gr ≤ 192 := by
        unfold ev_gt
        by_cases c : gr = 3
        · rw [if_pos c]; omega
        · rw [if_neg c]; omega
      by_cases c : w = 0
      · rw [if_pos c, if_pos c]
        have := ev_rg_cn (G := ev_sB (ev_Fo ya)) b1 b2
        exact congrArg nI (by omega)
      · rw [if_neg c, if_neg c]
        have := ev_rg_cn (G := ev_Fo ya) b1 b2
        exact congrArg nI (by omega)
    · unfold wpX_room wpY_room
      dsimp only
      refine ev_inX1 (n := 4) hg (by omega) (br_f (by decide) (ev_inX0 (n := 2) (by omega) c3 (br_t rfl ?_)))
      exact ev_inY1 (n := 4) hg (by omega) (br_f (by decide) (ev_inY0 (n := 2) (by omega) c3 (br_t rfl ⟨rfl, R0⟩)))
  · unfold wpX_room wpY_room
    dsimp only
    exact ev_inX0 (n := 4) (by omega) c1 (br_t rfl (ev_inY0 (n := 4) (by omega) c1 (br_t rfl ⟨rfl, R0⟩)))
end
section
/-! a change from its begin to its end; punch and share -/
theorem ev_op_start {c g sh : Nat} {β : Nat → Nat} {HP HI : Nat → Nat → Int32} {pc it oa ov : Nat → Int32} (be : ev_be c g β) (hs : sh ≤ c) (e1 : HP g = pc) (e2 : HI g = it) (ch : ev_ch (g - β sh) (fun j => HP (j + β sh)) (fun j => HI (j + β sh)) oa ov) :
    ev_LX (g - β sh) (fun j => HP (j + β sh)) (fun j => HI (j + β sh)) (g - β sh) pc it oa ov := by
  have hB := ev_be_mono be c sh hs (Nat.le_refl _)
  rw [be.2.1] at hB
  refine ⟨_, _, fun j _ => ⟨rfl, rfl⟩, ?_, ?_, Nat.le_refl _, ch.1, ch.2⟩
  · show HP (g - β sh + β sh) = pc
    rw [show g - β sh + β sh = g from by omega]; exact e1
  · show HI (g - β sh + β sh) = it
    rw [show g - β sh + β sh = g from by omega]; exact e2
theorem ev_op_end {c g sh gN : Nat} {β : Nat → Nat} {HP HI : Nat → Nat → Int32} {pc it pcN itN oa ov bg yz yz' : Nat → Int32} {fb sp : Int32} {us ln ks bl sz lf nx pv sr rt : Nat → Int32} (hc : c ≤ 4) (hsh : sh = if c = 4 then 1 else 0) (be : ev_be c g β) (e1 : HP g = pc) (e2 : HI g = it)
    (as : ∀ i, i < c → ev_as yz i (HP (β i)) (HI (β i))) (hbg : ∀ i, i ≤ c - sh → bg i = nI (β (i + sh) - β sh)) (hy1 : ev_as yz' (c - sh) pc it) (hy2 : ∀ j, j < 704 * (c - sh) → yz' j = yz (j + 704 * sh))
    (L : ev_LX (g - β sh) (fun j => HP (j + β sh)) (fun j => HI (j + β sh)) gN pcN itN oa ov) (hgN : gN ≤ g - β sh + 128) (P : ev_PX pcN fb us ln sp ks bl sz lf nx pv sr rt) :
    ev_RR fb sp (nI (c - sh + 1)) (nI gN) 0 pcN us itN ln ks bl sz lf nx pv sr rt oa ov bg (nI (c - sh + 1)) pcN itN yz' := by
  have hs : sh ≤ c := by
    rw [hsh]; split <;> omega
  have c0 : c - sh ≤ 3 := by
    rw [hsh]
    by_cases q : c = 4
    · rw [if_pos q]; omega
    · rw [if_neg q]; omega
  have b0 := ev_be_sh be hs
  obtain ⟨PP, II, l1, l2, l3, l4, l5, l6⟩ := L
  have hlt : ∀ i, i ≤ c - sh → β (i + sh) - β sh ≤ g - β sh ∧ β sh ≤ β (i + sh) := by
    intro i hi
    have a := ev_be_mono be c (i + sh) (by omega) (Nat.le_refl _)
    have b := ev_be_mono be (i + sh) sh (by omega) (by omega)
    rw [be.2.1] at a
    omega
  refine ⟨c - sh + 1, gN, ev_u (fun i => β (i + sh) - β sh) (c - sh + 1) gN, PP, II, rfl, rfl, rfl, rfl, rfl, rfl, by omega, P, ⟨?_, ev_us, fun i hi => ?_⟩, ⟨l5, l6⟩, l2, l3, fun i hi => ?_, fun i hi => ?_⟩
  · rw [ev_un (by omega)]; exact b0.1
  · rw [ev_un (show i ≠ c - sh + 1 by omega)]
    by_cases q : i = c - sh
    · subst q
      rw [ev_us]
      have : β (c - sh + sh) - β sh = g - β sh := b0.2.1
      rw [this]
      exact ⟨l4, hgN⟩
    · rw [ev_un (by omega)]
      exact b0.2.2 i (by omega)
  · rw [ev_un (by omega)]; exact hbg i (by omega)
  · rw [ev_un (by omega)]
    obtain ⟨a1, a2⟩ := hlt i (by omega)
    obtain ⟨q1, q2⟩ := l1 (β (i + sh) - β sh) a1
    show ev_as yz' i (PP (β (i + sh) - β sh)) (II (β (i + sh) - β sh))
    rw [q1, q2]
    show ev_as yz' i (HP (β (i + sh) - β sh + β sh)) (HI (β (i + sh) - β sh + β sh))
    rw [show β (i + sh) - β sh + β sh = β (i + sh) from by omega]
    by_cases q : i = c - sh
    · subst q
      rw [show c - sh + sh = c from by omega, be.2.1, e1, e2]
      exact hy1
    · obtain ⟨w1, w2⟩ := as (i + sh) (by omega)
      refine ⟨fun k hk => ?_, fun b hb => ?_⟩
      · rw [hy2 _ (by omega), show 704 * i + k + 704 * sh = 704 * (i + sh) + k from by omega]; exact w1 k hk
      · rw [hy2 _ (by omega), show 704 * i + 512 + b + 704 * sh = 704 * (i + sh) + 512 + b from by omega]; exact w2 b hb
theorem ev_gsh {c g sh : Nat} {β : Nat → Nat} (hc : c ≤ 4) (hsh : sh = if c = 4 then 1 else 0) (be : ev_be c g β) : g - β sh ≤ 384 := by
  have hs : sh ≤ c := by rw [hsh]; split <;> omega
  have b0 := ev_be_sh be hs
  have h := ev_be_le b0 (c - sh) (Nat.le_refl _)
  have e : β (c - sh + sh) - β sh = g - β sh := b0.2.1
  have h' : β (c - sh + sh) - β sh ≤ 128 * (c - sh) := h
  rw [e] at h'
  have : c - sh ≤ 3 := by
    rw [hsh]
    by_cases q : c = 4
    · rw [if_pos q]; omega
    · rw [if_neg q]; omega
  omega
theorem ev_gd_hole {pc : Nat → Int32} {k : Nat} (g : ev_gd pc) (hk : k < 512) : ev_gd (upd pc k (-1)) := by
  refine ⟨fun j hj => ?_, fun j j' x hj hj' hx q1 q2 => ?_, fun j hj => ?_⟩
  · by_cases c : j = k
    · exact ⟨none, by rw [c, pk_us]; rfl, fun b e => by simp at e⟩
    · rw [pk_un c]; exact g.1 j hj
  · have n1 : j ≠ k := fun e => by rw [e, pk_us] at q1; exact ev_m1_ne (by omega) q1
    have n2 : j' ≠ k := fun e => by rw [e, pk_us] at q2; exact ev_m1_ne (by omega) q2
    rw [pk_un n1] at q1
    rw [pk_un n2] at q2
    exact g.2.1 j j' x hj hj' hx q1 q2
  · rw [pk_un (by omega)]; exact g.2.2 j hj
theorem ev_gd_cp {pc : Nat → Int32} {k k' : Nat} (g : ev_gd pc) (hk : k < 512) (hk' : k' < 512) (hm : k % 64 = k' % 64) : ev_gd (upd pc k (pc k')) := by
  refine ⟨fun j hj => ?_, fun j j' x hj hj' hx q1 q2 => ?_, fun j hj => ?_⟩
  · by_cases c : j = k
    · rw [c, pk_us]; exact g.1 k' hk'
    · rw [pk_un c]; exact g.1 j hj
  · have w : ∀ i, i < 512 → upd pc k (pc k') i = nI x → ∃ i', i' < 512 ∧ pc i' = nI x ∧ i' % 64 = i % 64 := by
      intro i hi e
      by_cases c : i = k
      · rw [c, pk_us] at e
        exact ⟨k', hk', e, by rw [c]; exact hm.symm⟩
      · rw [pk_un c] at e
        exact ⟨i, hi, e, rfl⟩
    obtain ⟨i, i1, i2, i3⟩ := w j hj q1
    obtain ⟨i', j1, j2, j3⟩ := w j' hj' q2
    have := g.2.1 i i' x i1 j1 hx i2 j2
    omega
  · rw [pk_un (by omega)]; exact g.2.2 j hj
def ev_ph (pc : Nat → Int32) (a : Nat) : Nat → Nat → Int32
  | 0 => pc
  | j + 1 => upd (ev_ph pc a j) (a + j) (-1)
theorem ev_ph_gd {pc : Nat → Int32} {a : Nat} (g : ev_gd pc) : ∀ {j}, a + j ≤ 512 → ev_gd (ev_ph pc a j)
  | 0, _ => g
  | j + 1, h => ev_gd_hole (ev_ph_gd g (by omega)) (by omega)
section
variable {fb sp dp kp lg ls fd mn : Int32} {pc us it ln ks bl sz lf nx pv sr rt pa wy oa ov bg : Nat → Int32}
theorem ev_punch29 {post : Int32 → SX → Prop} {file from_ n g0 : Nat} {HP HI : Nat → Nat → Int32} {x4 : Int32} (gd : ev_gd pc) (hf : file < 8) (h3 : 1 ≤ n) (h4 : from_ + n ≤ 64) (hg : g0 + n ≤ 560)
    (H : ∀ oa' ov' fb' us' ln' sp' dp' ks' bl' sz' lf' nx' pv' sr' rt' pa' wy', ev_LX g0 HP HI (g0 + n) (ev_ph pc (64 * file + from_) n) it oa' ov' → ev_PX (ev_ph pc (64 * file + from_) n) fb' us' ln' sp' ks' bl' sz' lf' nx' pv' sr' rt' → post (fb' - x4) (fb', sp', dp', kp, nI (g0 + n), 0, fd, mn, ev_ph pc (64 * file + from_) n, us', it, ln', ks', bl', sz', lf', nx', pv', sr', rt', pa', wy', oa', ov', bg)) :
    ∀ (d j : Nat) (fb : Int32) (us ln : Nat → Int32) (sp dp : Int32) (ks bl sz lf nx pv sr rt pa wy oa ov : Nat → Int32), j + d = n → ev_LX g0 HP HI (g0 + j) (ev_ph pc (64 * file + from_) j) it oa ov → ev_PX (ev_ph pc (64 * file + from_) j) fb us ln sp ks bl sz lf nx pv sr rt →
    wX_punch_29 post (nI file) (nI from_) (nI n) x4 (d + 1) (nI (64 * file + from_ + j)) fb sp dp kp (nI (g0 + j)) 1 fd mn (ev_ph pc (64 * file + from_) j) us it ln ks bl sz lf nx pv sr rt pa wy oa ov bg := by
  have e64 : (64 : Int32) * nI file + nI from_ + nI n = nI (64 * file + from_ + n) := by rw [ev_i64 hf (by omega), nI_add]
  intro d
  induction d with
  | zero =>
    intro j fb us ln sp dp ks bl sz lf nx pv sr rt pa wy oa ov hj L P
    have : j = n := by omega
    subst this
    exact br_t (by rw [e64]; exact nI_le (Nat.le_refl _) (by omega)) (H oa ov fb us ln sp dp ks bl sz lf nx pv sr rt pa wy L P)
  | succ d ih =>
    intro j fb us ln sp dp ks bl sz lf nx pv sr rt pa wy oa ov hj L P
    refine br_f (by rw [e64]; exact nI_ge (by omega) (by omega)) ?_
    refine ev_putL (o := none) P L (by omega) (by omega) (fun b e => by simp at e) (ev_gd_hole P.1 (by omega)) (fun oa' ov' fb' us' ln' sp' dp' ks' bl' sz' lf' nx' pv' sr' rt' pa' wy' L' P' => ?_)
    intro y ey
    rw [nI_1] at ey
    subst ey
    exact ih (j + 1) fb' us' ln' sp' dp' ks' bl' sz' lf' nx' pv' sr' rt' pa' wy' oa' ov' (by omega) L' P'
end
section
variable {yk yf yl : Int32} {ya yi ym yz : Nat → Int32}
theorem ev_punch24 {post : Int32 → SY → Prop} {file from_ n : Nat} {x4 : Int32} (gd : ev_gd ya) (hf : file < 8) (h3 : 1 ≤ n) (h4 : from_ + n ≤ 64)
    (H : ∀ ym', post (nI (ev_cn (ev_Fo (ev_ph ya (64 * file + from_) n)) 192) - x4) (yk, yf, yl, ev_ph ya (64 * file + from_) n, yi, ym', yz)) :
    ∀ (d j : Nat), j + d = n → wY_punch_24 post (nI file) (nI from_) (nI n) x4 yk yf yl (d + 1) (nI (from_ + j)) (ev_ph ya (64 * file + from_) j) yi ym yz := by
  intro d
  induction d with
  | zero =>
    intro j hj
    have : j = n := by omega
    subst this
    refine br_t (by rw [nI_add]; exact nI_le (Nat.le_refl _) (by omega)) ?_
    exact ev_freeBlocks (ev_ph_gd gd (by omega)) (fun ym' _ => H ym')
  | succ d ih =>
    intro j hj
    refine br_f (by rw [nI_add]; exact nI_ge (by omega) (by omega)) ?_
    rw [ev_i64 hf (by omega)]
    refine ⟨vp_in_nI (by omega) (by omega), fun a ea y ey => ?_⟩
    rw [nI_1] at ey
    subst ey
    rw [nI_clamp (by omega), show 64 * file + (from_ + j) = 64 * file + from_ + j from by omega] at ea
    have ea' : a = ev_ph ya (64 * file + from_) (j + 1) := ea
    subst ea'
    exact ih (j + 1) (by omega)
end
theorem i_vc_punch {k : Nat} {u : SX} {v : SY} (I : i_Rel k u v) (hk : k + 5 ≤ 2560) (v1 : Int32) (v2 : Int32) (v3 : Int32) : wpX_punch (fun r u' => wpY_punch (fun r' v' => r' = r ∧ i_Rel (k + 5) u' v') v v1 v2 v3) u v1 v2 v3 := by
  refine ev_el (P := fun u v => wpX_punch (fun r u' => wpY_punch (fun r' v' => r' = r ∧ i_Rel (k + 5) u' v') v v1 v2 v3) u v1 v2 v3) I ?_
  intro fb sp dp kp lg ls fd mn pc us it ln ks bl sz lf nx pv sr rt pa wy oa ov bg yk yf yl ya yi ym yz R
  have R0 := R
  obtain ⟨c, g, β, HP, HI, r1, r2, r3, r4, r5, r6, r7, r8, r9, r10, r11, r12, r13, r14⟩ := R
  unfold wpX_punch wpY_punch
  dsimp only
  by_cases c0 : ev_row v1 v2 v3
  · obtain ⟨file, from_, n, h1, h2, h3, h4, e1, e2, e3⟩ := c0
    subst e1 e2 e3 r1 r2 r3 r4 r5 r6
    obtain ⟨sh, hsh⟩ : ∃ sh, sh = if c = 4 then 1 else 0 := ⟨_, rfl⟩
    have hs : sh ≤ c := by rw [hsh]; split <;> omega
    have gsh := ev_gsh r7 hsh r9
    obtain ⟨gd, hu, K, X, I2, hfb⟩ := r8
    refine ev_fits1 h1 h2 h3 h4 (br_f (by decide) ?_)
    refine ev_begin (c := c) (g := g) r7 hsh r9 r10 r13 (fun oa' ov' bg' hbg' ch' => ?_)
    have L0 := ev_op_start r9 hs r11 r12 ch'
    intro y ey
    rw [ev_i64 h1 h2] at ey
    subst ey
    refine Exists.intro (n + 1) ?_
    refine ev_punch29 (x4 := fb) (g0 := g - β sh) gd h1 h3 h4 (by omega) (fun oa2 ov2 fb2 us2 ln2 sp2 dp2 ks2 bl2 sz2 lf2 nx2 pv2 sr2 rt2 pa2 wy2 L2 P2 => ?_) n 0 fb us ln sp dp ks bl sz lf nx pv sr rt pa wy oa' ov' (by omega) L0 ⟨gd, hu, K, X, I2, hfb⟩
    refine ev_isRow1 h1 h2 h3 h4 (br_f (by decide) ?_)
    refine ev_freeBlocks gd (fun ym' _ => ?_)
    refine ev_keep (c := c) r7 hsh (fun yz' hy1 hy2 => Exists.intro (n + 1) ?_)
    refine ev_punch24 (x4 := nI (ev_cn (ev_Fo ya) 192)) gd h1 h3 h4 (fun ym2 => ?_) n 0 (by omega)
    have hfb2 : fb2 = nI (ev_cn (ev_Fo (ev_ph ya (64 * file + from_) n)) 192) := by
      obtain ⟨_, _, _, _, _, q⟩ := P2
      exact q
    refine ⟨?_, ev_op_end r7 hsh r9 r11 r12 r14 hbg' hy1 hy2 L2 (by omega) P2⟩
    rw [hfb2, hfb]
  · exact ev_fits0 c0 (br_t rfl (ev_isRow0 c0 (br_t rfl ⟨rfl, R0⟩)))
end
section
/-! share -/
def ev_sh (pc : Nat → Int32) (f t a : Nat) : Nat → Nat → Int32
  | 0 => pc
  | j + 1 => upd (ev_sh pc f t a j) (64 * t + (a + j)) (pc (64 * f + (a + j)))
def ev_sc (pc : Nat → Int32) (f a : Nat) : Nat → Nat
  | 0 => 0
  | j + 1 => ev_sc pc f a j + (if pc (64 * f + (a + j)) < 0 then 0 else 1)
theorem ev_sh_ok {pc : Nat → Int32} {f t a : Nat} (g : ev_gd pc) (hf : f < 8) (ht : t < 8) (hne : t ≠ f) : ∀ {j}, a + j ≤ 64 → ev_gd (ev_sh pc f t a j) ∧ ∀ i, i < 64 → ev_sh pc f t a j (64 * f + i) = pc (64 * f + i)
  | 0, _ => ⟨g, fun _ _ => rfl⟩
  | j + 1, h => by
      obtain ⟨a1, a2⟩ := ev_sh_ok (t := t) (a := a) g hf ht hne (j := j) (by omega)
      refine ⟨?_, fun i hi => ?_⟩
      · show ev_gd (upd (ev_sh pc f t a j) (64 * t + (a + j)) (pc (64 * f + (a + j))))
        rw [← a2 (a + j) (by omega)]
        exact ev_gd_cp a1 (by omega) (by omega) (by omega)
      · show upd (ev_sh pc f t a j) (64 * t + (a + j)) _ (64 * f + i) = _
        rw [pk_un (by omega)]; exact a2 i hi
section
variable {fb sp dp kp lg ls fd mn : Int32} {pc us it ln ks bl sz lf nx pv sr rt pa wy oa ov bg : Nat → Int32}
theorem ev_share36 {post : Int32 → SX → Prop} {f t a n g0 : Nat} {HP HI : Nat → Nat → Int32} (gd : ev_gd pc) (hf : f < 8) (ht : t < 8) (hne : t ≠ f) (h4 : a + n ≤ 64) (hg : g0 + n ≤ 560)
    (H : ∀ oa' ov' fb' us' ln' sp' dp' ks' bl' sz' lf' nx' pv' sr' rt' pa' wy', ev_LX g0 HP HI (g0 + n) (ev_sh pc f t a n) it oa' ov' → ev_PX (ev_sh pc f t a n) fb' us' ln' sp' ks' bl' sz' lf' nx' pv' sr' rt' → post (nI (ev_sc pc f a n)) (fb', sp', dp', kp, nI (g0 + n), 0, fd, mn, ev_sh pc f t a n, us', it, ln', ks', bl', sz', lf', nx', pv', sr', rt', pa', wy', oa', ov', bg)) :
    ∀ (d j : Nat) (fb : Int32) (us ln : Nat → Int32) (sp dp : Int32) (ks bl sz lf nx pv sr rt pa wy oa ov : Nat → Int32), j + d = n → ev_LX g0 HP HI (g0 + j) (ev_sh pc f t a j) it oa ov → ev_PX (ev_sh pc f t a j) fb us ln sp ks bl sz lf nx pv sr rt →
    wX_share_36 post (nI f) (nI t) (nI a) (nI n) (d + 1) (nI (ev_sc pc f a j)) (nI (a + j)) fb sp dp kp (nI (g0 + j)) 1 fd mn (ev_sh pc f t a j) us it ln ks bl sz lf nx pv sr rt pa wy oa ov bg := by
  intro d
  induction d with
  | zero =>
    intro j fb us ln sp dp ks bl sz lf nx pv sr rt pa wy oa ov hj L P
    have : j = n := by omega
    subst this
    exact br_t (by rw [nI_add]; exact nI_le (Nat.le_refl _) (by omega)) (H oa ov fb us ln sp dp ks bl sz lf nx pv sr rt pa wy L P)
  | succ d ih =>
    intro j fb us ln sp dp ks bl sz lf nx pv sr rt pa wy oa ov hj L P
    obtain ⟨a1, a2⟩ := ev_sh_ok (a := a) gd hf ht hne (j := j) (by omega)
    obtain ⟨b1, b2⟩ := ev_sh_ok (a := a) gd hf ht hne (j := j + 1) (by omega)
    obtain ⟨o, ho, hob⟩ := gd.1 (64 * f + (a + j)) (by omega)
    have i1 : vp_in ((64 : Int32) * nI f + nI (a + j)) 512 := by rw [ev_i64 hf (by omega)]; exact vp_in_nI (by omega) (by omega)
    have i2 : ((64 : Int32) * nI f + nI (a + j)).toNatClampNeg = 64 * f + (a + j) := by rw [ev_i64 hf (by omega)]; exact nI_clamp (by omega)
    refine br_f (by rw [nI_add]; exact nI_ge (by omega) (by omega)) ⟨i1, ?_⟩
    rw [i2, a2 (a + j) (by omega), ho]
    show wpX_put _ _ ((64 : Int32) * nI t + nI (a + j)) (ev_o o)
    rw [ev_i64 ht (by omega)]
    have esh : ev_sh pc f t a (j + 1) = upd (ev_sh pc f t a j) (64 * t + (a + j)) (ev_o o) := by
      show upd (ev_sh pc f t a j) (64 * t + (a + j)) (pc (64 * f + (a + j))) = _
      rw [ho]
    have esc : ev_sc pc f a (j + 1) = ev_sc pc f a j + (if pc (64 * f + (a + j)) < 0 then 0 else 1) := rfl
    rw [esh] at b1
    refine ev_putL (o := o) P L (by omega) (by omega) hob b1 (fun oa' ov' fb' us' ln' sp' dp' ks' bl' sz' lf' nx' pv' sr' rt' pa' wy' L' P' => ?_)
    refine And.intro i1 ?_
    have nxt := ih (j + 1) fb' us' ln' sp' dp' ks' bl' sz' lf' nx' pv' sr' rt' pa' wy' oa' ov' (by omega) (by rw [esh]; exact L') (by rw [esh]; exact P')
    have rd : upd (ev_sh pc f t a j) (64 * t + (a + j)) (ev_o o) (64 * f + (a + j)) = ev_o o := by
      rw [← esh, b2 (a + j) (by omega), ho]
    rw [rd]
    rw [ho] at esc
    cases o with
    | none =>
      refine br_t (show (-1 : Int32) < 0 by decide) (fun y ey => ?_)
      rw [nI_1] at ey
      subst ey
      rw [if_pos (show ev_o none < 0 by decide), Nat.add_zero] at esc
      rw [esc, esh] at nxt
      exact nxt
    | some b =>
      have hb := hob b rfl
      refine br_f (show ¬ nI b < 0 from nI_pos (by omega)) (fun x ex y ey => ?_)
      rw [nI_1] at ex ey
      subst ex
      subst ey
      rw [if_neg (show ¬ ev_o (some b) < 0 from nI_pos (by omega))] at esc
      rw [esc, esh] at nxt
      exact nxt
end
section
variable {yk yf yl : Int32} {ya yi ym yz : Nat → Int32}
theorem ev_shareY36 {post : Int32 → SY → Prop} {f t a n : Nat} (gd : ev_gd ya) (hf : f < 8) (ht : t < 8) (hne : t ≠ f) (h4 : a + n ≤ 64) (H : post (nI (ev_sc ya f a n)) (yk, yf, yl, ev_sh ya f t a n, yi, ym, yz)) :
    ∀ (d j : Nat), j + d = n → wY_share_36 post (nI f) (nI t) (nI a) (nI n) yk yf yl (d + 1) (nI (ev_sc ya f a j)) (nI (a + j)) (ev_sh ya f t a j) yi ym yz := by
  intro d
  induction d with
  | zero =>
    intro j hj
    have : j = n := by omega
    subst this
    exact br_t (by rw [nI_add]; exact nI_le (Nat.le_refl _) (by omega)) H
  | succ d ih =>
    intro j hj
    obtain ⟨a1, a2⟩ := ev_sh_ok (a := a) gd hf ht hne (j := j) (by omega)
    obtain ⟨o, ho, hob⟩ := gd.1 (64 * f + (a + j)) (by omega)
    have i1 : vp_in ((64 : Int32) * nI f + nI (a + j)) 512 := by rw [ev_i64 hf (by omega)]; exact vp_in_nI (by omega) (by omega)
    have i2 : ((64 : Int32) * nI f + nI (a + j)).toNatClampNeg = 64 * f + (a + j) := by rw [ev_i64 hf (by omega)]; exact nI_clamp (by omega)
    have j1 : vp_in ((64 : Int32) * nI t + nI (a + j)) 512 := by rw [ev_i64 ht (by omega)]; exact vp_in_nI (by omega) (by omega)
    have j2 : ((64 : Int32) * nI t + nI (a + j)).toNatClampNeg = 64 * t + (a + j) := by rw [ev_i64 ht (by omega)]; exact nI_clamp (by omega)
    refine br_f (by rw [nI_add]; exact nI_ge (by omega) (by omega)) ⟨i1, j1, fun z ez => ⟨j1, ?_⟩⟩
    rw [i2, j2, a2 (a + j) (by omega)] at ez
    have ez' : z = ev_sh ya f t a (j + 1) := ez
    have rd : z (64 * t + (a + j)) = ev_o o := by rw [ez, pk_us, ho]
    rw [j2, rd]
    have nxt := ih (j + 1) (by omega)
    have esc : ev_sc ya f a (j + 1) = ev_sc ya f a j + (if ya (64 * f + (a + j)) < 0 then 0 else 1) := rfl
    rw [ho] at esc
    cases o with
    | none =>
      refine br_t (show (-1 : Int32) < 0 by decide) (fun y ey => ?_)
      rw [nI_1] at ey
      subst ey
      rw [if_pos (show ev_o none < 0 by decide), Nat.add_zero] at esc
      rw [esc] at nxt
      rw [ez']
      exact nxt
    | some b =>
      have hb := hob b rfl
      refine br_f (show ¬ nI b < 0 from nI_pos (by omega)) (fun x ex y ey => ?_)
      rw [nI_1] at ex ey
      subst ex
      subst ey
      rw [if_neg (show ¬ ev_o (some b) < 0 from nI_pos (by omega))] at esc
      rw [esc] at nxt
      rw [ez']
      exact nxt
end
theorem i_vc_share {k : Nat} {u : SX} {v : SY} (I : i_Rel k u v) (hk : k + 5 ≤ 2560) (v1 : Int32) (v2 : Int32) (v3 : Int32) (v4 : Int32) : wpX_share (fun r u' => wpY_share (fun r' v' => r' = r ∧ i_Rel (k + 5) u' v') v v1 v2 v3 v4) u v1 v2 v3 v4 := by
  refine ev_el (P := fun u v => wpX_share (fun r u' => wpY_share (fun r' v' => r' = r ∧ i_Rel (k + 5) u' v') v v1 v2 v3 v4) u v1 v2 v3 v4) I ?_
  intro fb sp dp kp lg ls fd mn pc us it ln ks bl sz lf nx pv sr rt pa wy oa ov bg yk yf yl ya yi ym yz R
  have R0 := R
  obtain ⟨c, g, β, HP, HI, r1, r2, r3, r4, r5, r6, r7, r8, r9, r10, r11, r12, r13, r14⟩ := R
  unfold wpX_share wpY_share
  dsimp only
  by_cases c0 : ev_row v1 v3 v4
  · obtain ⟨f, a, n, h1, h2, h3, h4, e1, e2, e3⟩ := c0
    subst e1 e2 e3
    refine ev_fits1 h1 h2 h3 h4 (br_f (by decide) ?_)
    by_cases c1 : ∃ j, j < 8 ∧ v2 = nI j
    · obtain ⟨t, ht, e4⟩ := c1
      subst e4
      refine ev_inX1 (n := 8) ht (by omega) (br_f (by decide) ?_)
      by_cases c2 : t = f
      · subst c2
        refine br_t rfl ?_
        refine ev_isRow1 h1 h2 h3 h4 (br_f (by decide) ?_)
        exact ev_inY1 (n := 8) ht (by omega) (br_f (by decide) (br_t rfl ⟨rfl, R0⟩))
      · subst r1 r2 r3 r4 r5 r6
        obtain ⟨sh, hsh⟩ : ∃ sh, sh = if c = 4 then 1 else 0 := ⟨_, rfl⟩
        have hs : sh ≤ c := by rw [hsh]; split <;> omega
        have gsh := ev_gsh r7 hsh r9
        have hne : ¬ nI t = nI f := fun e => c2 ((nI_eq (by omega) (by omega)).mp e)
        refine br_f hne ?_
        refine ev_begin (c := c) (g := g) r7 hsh r9 r10 r13 (fun oa' ov' bg' hbg' ch' => Exists.intro (n + 1) ?_)
        have L0 := ev_op_start r9 hs r11 r12 ch'
        refine ev_share36 (g0 := g - β sh) r8.1 h1 ht c2 h4 (by omega) (fun oa2 ov2 fb2 us2 ln2 sp2 dp2 ks2 bl2 sz2 lf2 nx2 pv2 sr2 rt2 pa2 wy2 L2 P2 => ?_) n 0 fb us ln sp dp ks bl sz lf nx pv sr rt pa wy oa' ov' (by omega) L0 r8
        refine ev_isRow1 h1 h2 h3 h4 (br_f (by decide) ?_)
        refine ev_inY1 (n := 8) ht (by omega) (br_f (by decide) (br_f hne ?_))
        refine ev_keep (c := c) r7 hsh (fun yz' hy1 hy2 => Exists.intro (n + 1) ?_)
        exact ev_shareY36 r8.1 h1 ht c2 h4 ⟨rfl, ev_op_end r7 hsh r9 r11 r12 r14 hbg' hy1 hy2 L2 (by omega) P2⟩ n 0 (by omega)
    · refine ev_inX0 (n := 8) (by omega) c1 (br_t rfl ?_)
      refine ev_isRow1 h1 h2 h3 h4 (br_f (by decide) ?_)
      exact ev_inY0 (n := 8) (by omega) c1 (br_t rfl ⟨rfl, R0⟩)
  · exact ev_fits0 c0 (br_t rfl (ev_isRow0 c0 (br_t rfl ⟨rfl, R0⟩)))
end
section
/-! pack -/
theorem ev_sc_add (pc : Nat → Int32) (f a i : Nat) : ∀ j, ev_sc pc f a (i + j) = ev_sc pc f a i + ev_sc pc f (a + i) j
  | 0 => rfl
  | j + 1 => by
      show ev_sc pc f a (i + j) + (if pc (64 * f + (a + (i + j))) < 0 then 0 else 1) = ev_sc pc f a i + (ev_sc pc f (a + i) j + (if pc (64 * f + (a + i + j)) < 0 then 0 else 1))
      rw [ev_sc_add pc f a i j, show a + (i + j) = a + i + j from by omega]
      omega
theorem ev_sc_all {pc : Nat → Int32} {f a : Nat} : ∀ {i}, (∀ p, a ≤ p → p < a + i → ¬ pc (64 * f + p) < 0) → ev_sc pc f a i = i
  | 0, _ => rfl
  | i + 1, h => by
      show ev_sc pc f a i + (if pc (64 * f + (a + i)) < 0 then 0 else 1) = i + 1
      rw [ev_sc_all (fun p h1 h2 => h p h1 (by omega)), if_neg (h (a + i) (by omega) (by omega))]
theorem ev_sc_c {pc pc' : Nat → Int32} {f a : Nat} : ∀ {i}, (∀ p, a ≤ p → p < a + i → pc' (64 * f + p) = pc (64 * f + p)) → ev_sc pc' f a i = ev_sc pc f a i
  | 0, _ => rfl
  | i + 1, h => by
      show ev_sc pc' f a i + (if pc' (64 * f + (a + i)) < 0 then 0 else 1) = ev_sc pc f a i + (if pc (64 * f + (a + i)) < 0 then 0 else 1)
      rw [ev_sc_c (fun p h1 h2 => h p h1 (by omega)), h (a + i) (by omega) (by omega)]
theorem ev_sc_le (pc : Nat → Int32) (f a : Nat) : ∀ i, ev_sc pc f a i ≤ i
  | 0 => Nat.le_refl _
  | i + 1 => by
      have := ev_sc_le pc f a i
      show ev_sc pc f a i + (if pc (64 * f + (a + i)) < 0 then 0 else 1) ≤ i + 1
      split <;> omega
/-- where a row of like pieces ends -/
theorem ev_scan (Q : Nat → Prop) (t : Nat) : ∀ d k, k + d = t → ∃ e, k ≤ e ∧ e ≤ t ∧ (∀ p, k ≤ p → p < e → Q p) ∧ (e = t ∨ ¬ Q e)
  | 0, k, h => ⟨k, Nat.le_refl _, by omega, fun p h1 h2 => by omega, Or.inl (by omega)⟩
  | d + 1, k, h => by
      by_cases c : Q k
      · obtain ⟨e, h1, h2, h3, h4⟩ := ev_scan Q t d (k + 1) (by omega)
        refine ⟨e, by omega, h2, fun p p1 p2 => ?_, h4⟩
        by_cases q : p = k
        · rw [q]; exact c
        · exact h3 p (by omega) p2
      · exact ⟨k, Nat.le_refl _, by omega, fun p h1 h2 => by omega, Or.inr c⟩
theorem ev_hole_iff {pc : Nat → Int32} {k : Nat} (g : ev_gd pc) (hk : k < 512) : pc k < 0 ↔ pc k = -1 := by
  obtain ⟨o, ho, hob⟩ := g.1 k hk
  rw [ho]
  cases o with
  | none => exact ⟨fun _ => rfl, fun _ => by decide⟩
  | some b =>
    have := hob b rfl
    exact ⟨fun h => absurd h (nI_pos (by omega)), fun h => absurd h.symm (ev_m1_ne (by omega))⟩
section
variable {fb sp dp kp lg ls fd mn : Int32} {pc us it ln ks bl sz lf nx pv sr rt pa wy oa ov bg : Nat → Int32}
theorem ev_pack80 {post : Int32 → SX → Prop} {J : Int32 → Int32 → Int32 → Int32 → Int32 → Int32 → Int32 → Int32 → Int32 → (Nat → Int32) → (Nat → Int32) → (Nat → Int32) → (Nat → Int32) → (Nat → Int32) → (Nat → Int32) → (Nat → Int32) → (Nat → Int32) → (Nat → Int32) → (Nat → Int32) → (Nat → Int32) → (Nat → Int32) → (Nat → Int32) → (Nat → Int32) → (Nat → Int32) → (Nat → Int32) → (Nat → Int32) → Prop}
    {f k e : Nat} {x1 : Int32} (hf : f < 8) (he : e ≤ 64) (h3 : ∀ p, k ≤ p → p < e → ¬ pc (64 * f + p) < 0) (h4 : e = 64 ∨ pc (64 * f + e) < 0)
    (H : wX_pack_105 post J x1 (nI (64 * f)) (nI (64 * f + k)) (nI (64 * f + e)) fb sp dp kp lg ls fd mn pc us it ln ks bl sz lf nx pv sr rt pa wy oa ov bg) :
    ∀ (d j : Nat), j + d = e → k ≤ j → wX_pack_80 post J x1 (nI (64 * f)) (nI (64 * f + k)) fb sp dp kp lg ls fd mn pc us it ln ks bl sz lf nx pv sr rt pa wy oa ov bg (d + 1) (nI (64 * f + j)) := by
  have e64 : nI (64 * f) + (64 : Int32) = nI (64 * f + 64) := nI_add _ 64
  intro d
  induction d with
  | zero =>
    intro j hj hk
    have : j = e := by omega
    subst this
    by_cases c : j = 64
    · refine br_t (by rw [e64, c]; exact nI_le (Nat.le_refl _) (by omega)) H
    · refine br_f (by rw [e64]; exact nI_ge (by omega) (by omega)) ⟨vp_in_nI (by omega) (by omega), ?_⟩
      rw [nI_clamp (by omega)]
      exact br_t (h4.resolve_left c) H
  | succ d ih =>
    intro j hj hk
    refine br_f (by rw [e64]; exact nI_ge (by omega) (by omega)) ⟨vp_in_nI (by omega) (by omega), ?_⟩
    rw [nI_clamp (by omega)]
    refine br_f (h3 j hk (by omega)) (fun y ey => ?_)
    rw [nI_1] at ey
    subst ey
    exact ih (j + 1) (by omega) (by omega)
def ev_pkX (f n67 k L : Nat) (pc it pcF itF : Nat → Int32) : Prop :=
  ∀ (post : Int32 → SX → Prop) (g0 g : Nat) (HP HI : Nat → Nat → Int32) (fb sp dp kp fd mn : Int32) (us ln ks bl sz lf nx pv sr rt pa wy oa ov bg : Nat → Int32),
    ev_PX pc fb us ln sp ks bl sz lf nx pv sr rt → ev_LX g0 HP HI g pc it oa ov → g + L * 2 ≤ 560 →
    (∀ fd' mn' oa' ov' fb' us' ln' sp' dp' ks' bl' sz' lf' nx' pv' sr' rt' pa' wy', ev_LX g0 HP HI (g + L * 2) pcF itF oa' ov' → ev_PX pcF fb' us' ln' sp' ks' bl' sz' lf' nx' pv' sr' rt' → post (nI (ev_ex pcF (64 * f) 64)) (fb', sp', dp', kp, nI (g + L * 2), 0, fd', mn', pcF, us', itF, ln', ks', bl', sz', lf', nx', pv', sr', rt', pa', wy', oa', ov', bg)) →
    wX_pack_67 post (nI f) (nI (64 * f)) n67 (nI (64 * f + k)) fb sp dp kp (nI g) 1 fd mn pc us it ln ks bl sz lf nx pv sr rt pa wy oa ov bg
def ev_pkY (f n k : Nat) (ya yi yaF yiF : Nat → Int32) : Prop :=
  ∀ (post : Int32 → SY → Prop) (n67 : Nat) (yk yf yl : Int32) (ym yz : Nat → Int32), n < n67 →
    (∀ yf' yl' ym', post (nI (ev_ex yaF (64 * f) 64)) (yk, yf', yl', yaF, yiF, ym', yz)) → wY_pack_67 post (nI f) n67 (nI k) yk yf yl ya yi ym yz
end
section
variable {yk yf yl : Int32} {ya yi ym yz : Nat → Int32}
theorem ev_pack78 {post : Int32 → SY → Prop} {J : Int32 → Int32 → Int32 → Int32 → (Nat → Int32) → (Nat → Int32) → (Nat → Int32) → (Nat → Int32) → Prop}
    {f k e : Nat} (hf : f < 8) (he : e ≤ 64) (h3 : ∀ p, k ≤ p → p < e → ¬ ya (64 * f + p) < 0) (h4 : e = 64 ∨ ya (64 * f + e) < 0)
    (H : wY_pack_106 post J (nI f) (nI k) (nI e) yk yf yl ya yi ym yz) :
    ∀ (d j : Nat), j + d = e → k ≤ j → wY_pack_78 post J (nI f) (nI k) yk yf yl ya yi ym yz (d + 1) (nI j) := by
  intro d
  induction d with
  | zero =>
    intro j hj hk
    have : j = e := by omega
    subst this
    by_cases c : j = 64
    · exact br_t (by rw [c]; exact nI_le (a := 64) (Nat.le_refl _) (by omega)) H
    · refine br_f (nI_ge (b := 64) (by omega) (by omega)) ?_
      rw [ev_i64 hf (by omega)]
      refine ⟨vp_in_nI (by omega) (by omega), ?_⟩
      rw [nI_clamp (by omega)]
      exact br_t (h4.resolve_left c) H
  | succ d ih =>
    intro j hj hk
    refine br_f (nI_ge (b := 64) (by omega) (by omega)) ?_
    rw [ev_i64 hf (by omega)]
    refine ⟨vp_in_nI (by omega) (by omega), ?_⟩
    rw [nI_clamp (by omega)]
    refine br_f (h3 j hk (by omega)) (fun y ey => ?_)
    rw [nI_1] at ey
    subst ey
    exact ih (j + 1) (by omega) (by omega)
/-- a hole: the reference goes on by one -/
theorem ev_packY1 {post : Int32 → SY → Prop} {f k n : Nat} (hf : f < 8) (hk : k < 64) (hh : ya (64 * f + k) < 0) (H : wY_pack_67 post (nI f) n (nI (k + 1)) yk yf yl ya yi ym yz) : wY_pack_67 post (nI f) (n + 1) (nI k) yk yf yl ya yi ym yz := by
  refine br_f (nI_ge (b := 64) (by omega) (by omega)) (Exists.intro 1 ?_)
  refine ev_pack78 (e := k) hf (by omega) (fun p h1 h2 => by omega) (Or.inr hh) ?_ 0 k (by omega) (Nat.le_refl _)
  refine br_t (nI_le (Nat.le_refl _) (by omega)) (br_t (nI_le (Nat.le_refl _) (by omega)) (fun y ey => ?_))
  rw [nI_1] at ey
  subst ey
  exact H
end
theorem ev_pack {f : Nat} (hf : f < 8) :
    ∀ (d k : Nat) (pc it : Nat → Int32), 64 ≤ k + d → k ≤ 65 → ev_gd pc → ev_sc pc f k (64 - k) ≤ ev_cn (ev_Fo pc) 192 →
    ∃ pcF itF, ev_gd pcF ∧ ev_pkX f (d + 1) k (ev_sc pc f k (64 - k)) pc it pcF itF ∧ ev_pkY f (2 * d) (min k 64) pc it pcF itF := by
  have fin : ∀ (d k : Nat) (pc it : Nat → Int32), 64 ≤ k → k ≤ 65 → ev_gd pc → ev_pkX f (d + 1) k (ev_sc pc f k (64 - k)) pc it pc it ∧ ev_pkY f (2 * d) (min k 64) pc it pc it := by
    intro d k pc it h1 h2 g
    refine ⟨?_, ?_⟩
    · intro post g0 g' HP HI fb sp dp kp fd mn us ln ks bl sz lf nx pv sr rt pa wy oa ov bg P L _ H
      have e64 : nI (64 * f) + (64 : Int32) = nI (64 * f + 64) := nI_add _ 64
      have e0 : ev_sc pc f k (64 - k) = 0 := by rw [show 64 - k = 0 from by omega]; rfl
      rw [e0, Nat.zero_mul, Nat.add_zero] at H
      refine br_t (by rw [e64]; exact nI_le (by omega) (by omega)) ?_
      exact ev_extX g hf (H fd mn oa ov fb us ln sp dp ks bl sz lf nx pv sr rt pa wy L P)
    · intro post n67 yk yf yl ym yz hn H
      obtain ⟨n, rfl⟩ : ∃ n, n67 = n + 1 := ⟨n67 - 1, by omega⟩
      rw [show min k 64 = 64 from by omega]
      refine br_t (nI_le (a := 64) (Nat.le_refl _) (by omega)) ?_
      exact ev_extY g hf (H yf yl ym)
  intro d
  induction d with
  | zero =>
    intro k pc it h1 h2 g hc
    exact ⟨pc, it, g, fin 0 k pc it (by omega) h2 g⟩
  | succ d ih =>
    intro k pc it h1 h2 g hc
    by_cases hk : 64 ≤ k
    · exact ⟨pc, it, g, fin (d + 1) k pc it hk h2 g⟩
    · obtain ⟨e, e1, e2, e3, e4⟩ := ev_scan (fun p => ¬ pc (64 * f + p) < 0) 64 (64 - k) k (by omega)
      have e4' : e = 64 ∨ pc (64 * f + e) < 0 := e4.imp id (fun q => Classical.not_not.mp q)
      -- how many are laid down
      have cnt : ev_sc pc f k (64 - k) = (e - k) + ev_sc pc f (e + 1) (64 - (e + 1)) := by
        have a := ev_sc_add pc f k (e - k) (64 - e)
        have al : ev_sc pc f k (e - k) = e - k := ev_sc_all (fun p p1 p2 => e3 p p1 (by omega))
        rw [show e - k + (64 - e) = 64 - k from by omega, show k + (e - k) = e from by omega, al] at a
        rw [a]
        by_cases c : e = 64
        · rw [c]; rfl
        · have b := ev_sc_add pc f e 1 (64 - (e + 1))
          rw [show 1 + (64 - (e + 1)) = 64 - e from by omega] at b
          rw [b]
          have z : ev_sc pc f e 1 = 0 := by
            show 0 + (if pc (64 * f + (e + 0)) < 0 then 0 else 1) = 0
            rw [Nat.add_zero, if_pos (e4'.resolve_left c)]
          rw [z]; omega
      have e64 : nI (64 * f) + (64 : Int32) = nI (64 * f + 64) := nI_add _ 64
      by_cases ck : e = k
      · -- a hole
        subst ck
        obtain ⟨pcF, itF, gF, hX, hY⟩ := ih (e + 1) pc it (by omega) (by omega) g (by omega)
        refine ⟨pcF, itF, gF, ?_, ?_⟩
        · intro post g0 g' HP HI fb sp dp kp fd mn us ln ks bl sz lf nx pv sr rt pa wy oa ov bg P L hr H
          rw [cnt, Nat.sub_self, Nat.zero_add] at hr H
          refine br_f (by rw [e64]; exact nI_ge (by omega) (by omega)) (Exists.intro 1 ?_)
          refine ev_pack80 (e := e) hf e2 e3 e4' ?_ 0 e (by omega) (Nat.le_refl _)
          refine br_t (nI_le (Nat.le_refl _) (by omega)) (fun y ey => ?_)
          rw [nI_1] at ey
          subst ey
          exact hX post g0 g' HP HI fb sp dp kp fd mn us ln ks bl sz lf nx pv sr rt pa wy oa ov bg P L hr H
        · intro post n67 yk yf yl ym yz hn H
          obtain ⟨n, rfl⟩ : ∃ n, n67 = n + 1 := ⟨n67 - 1, by omega⟩
          have hh : pc (64 * f + e) < 0 := e4'.resolve_left (by omega)
          rw [show min e 64 = e from by omega]
          refine ev_packY1 hf (by omega) hh ?_
          have := hY post n yk yf yl ym yz (by omega) H
          rw [show min (e + 1) 64 = e + 1 from by omega] at this
          exact this
      · -- a row
        obtain ⟨pc1, it1, it1', ⟨g1, f2, f3, f4⟩, _, i2, _, lX, lY⟩ := ev_lay (al := true) (file := f) (e := 64 * f + e) hf (by omega) (e - k) (64 * f + k) none pc it it (by omega) (by omega) (by omega) g (fun b q => by simp at q) (by omega) (fun _ j j1 j2 q => by
          have := e3 (j - 64 * f) (by omega) (by omega)
          rw [show 64 * f + (j - 64 * f) = j from by omega, q] at this
          exact this (by decide))
        have ei := i2 rfl rfl
        subst ei
        have same : ∀ p, e ≤ p → p < 65 → pc1 (64 * f + p) = pc (64 * f + p) := fun p p1 _ => f2 (64 * f + p) (by omega)
        have cnt1 : ev_sc pc1 f (e + 1) (64 - (e + 1)) = ev_sc pc f (e + 1) (64 - (e + 1)) := ev_sc_c (fun p p1 p2 => same p (by omega) (by omega))
        obtain ⟨pcF, itF, gF, hX, hY⟩ := ih (e + 1) pc1 it1 (by omega) (by omega) g1 (by omega)
        refine ⟨pcF, itF, gF, ?_, ?_⟩
        · intro post g0 g' HP HI fb sp dp kp fd mn us ln ks bl sz lf nx pv sr rt pa wy oa ov bg P L hr H
          refine br_f (by rw [e64]; exact nI_ge (by omega) (by omega)) (Exists.intro (e - k + 1) ?_)
          refine ev_pack80 (e := e) hf e2 e3 e4' ?_ (e - k) k (by omega) (Nat.le_refl _)
          refine br_f (nI_ge (by omega) (by omega)) (Exists.intro (e - k + 1) ?_)
          have eq : g' + (64 * f + e - (64 * f + k)) * 2 = g' + (e - k) * 2 := by rw [show 64 * f + e - (64 * f + k) = e - k from by omega]
          refine lX _ g0 g' HP HI fb sp dp kp fd mn us ln ks bl sz lf nx pv sr rt pa wy oa ov bg P L (by rw [if_pos rfl, eq]; omega) (fun fd2 mn2 oa2 ov2 fb2 us2 ln2 sp2 dp2 ks2 bl2 sz2 lf2 nx2 pv2 sr2 rt2 pa2 wy2 L2 P2 => ?_)
          intro y ey
          rw [nI_1] at ey
          subst ey
          rw [if_pos rfl, eq] at L2 ⊢
          have hle : ev_sc pc1 f (e + 1) (64 - (e + 1)) = ev_sc pc f k (64 - k) - (e - k) := by omega
          refine hX post g0 (g' + (e - k) * 2) HP HI fb2 sp2 dp2 kp fd2 mn2 us2 ln2 ks2 bl2 sz2 lf2 nx2 pv2 sr2 rt2 pa2 wy2 oa2 ov2 bg P2 L2 (by omega) (fun fd3 mn3 oa3 ov3 fb3 us3 ln3 sp3 dp3 ks3 bl3 sz3 lf3 nx3 pv3 sr3 rt3 pa3 wy3 L3 P3 => ?_)
          have eq2 : g' + (e - k) * 2 + ev_sc pc1 f (e + 1) (64 - (e + 1)) * 2 = g' + ev_sc pc f k (64 - k) * 2 := by omega
          rw [eq2] at L3 ⊢
          exact H fd3 mn3 oa3 ov3 fb3 us3 ln3 sp3 dp3 ks3 bl3 sz3 lf3 nx3 pv3 sr3 rt3 pa3 wy3 L3 P3
        · intro post n67 yk yf yl ym yz hn H
          obtain ⟨n, rfl⟩ : ∃ n, n67 = n + 2 := ⟨n67 - 2, by omega⟩
          rw [show min k 64 = k from by omega]
          refine br_f (nI_ge (b := 64) (by omega) (by omega)) (Exists.intro (e - k + 1) ?_)
          refine ev_pack78 (e := e) hf e2 e3 e4' ?_ (e - k) k (by omega) (Nat.le_refl _)
          refine br_f (nI_ge (by omega) (by omega)) ?_
          rw [pk_sub (by omega)]
          refine br_f (show ¬ (1 : Int32) = 0 by decide) (Exists.intro (e - k + 1) ?_)
          refine lY _ k (e - k) 0 yk yf yl ym yz (by omega) (by omega) (fun yf2 yl2 ym2 => ?_)
          refine br_f (nI_ge (by omega) (by omega)) ?_
          by_cases c : e = 64
          · have := hY post (n + 1) yk yf2 yl2 ym2 yz (by omega) H
            rw [show min (e + 1) 64 = e from by omega] at this
            exact this
          · refine ev_packY1 hf (by omega) (by rw [same e (Nat.le_refl _) (by omega)]; exact e4'.resolve_left c) ?_
            have := hY post n yk yf2 yl2 ym2 yz (by omega) H
            rw [show min (e + 1) 64 = e + 1 from by omega] at this
            exact this
section
variable {fb sp dp kp lg ls fd mn : Int32} {pc us it ln ks bl sz lf nx pv sr rt pa wy oa ov bg : Nat → Int32}
theorem ev_pack21 {post : Int32 → SX → Prop} {f : Nat} (gd : ev_gd pc) (hf : f < 8) (hfb : fb = nI (ev_cn (ev_Fo pc) 192))
    (H1 : ev_sc pc f 0 64 ≤ ev_cn (ev_Fo pc) 192 → wpX_begin (fun u => match u with | (fb, sp, dp, kp, lg, ls, fd, mn, pc, us, it, ln, ks, bl, sz, lf, nx, pv, sr, rt, pa, wy, oa, ov, bg) => ∃ n67, wX_pack_67 post (nI f) (nI (64 * f)) n67 (nI (64 * f)) fb sp dp kp lg ls fd mn pc us it ln ks bl sz lf nx pv sr rt pa wy oa ov bg) (fb, sp, dp, kp, lg, ls, fd, mn, pc, us, it, ln, ks, bl, sz, lf, nx, pv, sr, rt, pa, wy, oa, ov, bg))
    (H2 : ev_cn (ev_Fo pc) 192 < ev_sc pc f 0 64 → post (-2) (fb, sp, dp, kp, lg, ls, fd, mn, pc, us, it, ln, ks, bl, sz, lf, nx, pv, sr, rt, pa, wy, oa, ov, bg)) :
    ∀ (d j : Nat), j + d = 64 → wX_pack_21 post (nI f) (nI (64 * f)) fb sp dp kp lg ls fd mn pc us it ln ks bl sz lf nx pv sr rt pa wy oa ov bg (d + 1) (nI (ev_sc pc f 0 j)) (nI (64 * f + j)) := by
  have e64 : nI (64 * f) + (64 : Int32) = nI (64 * f + 64) := nI_add _ 64
  have c192 := ev_cn_le (ev_Fo pc) 192
  have c64 := ev_sc_le pc f 0 64
  intro d
  induction d with
  | zero =>
    intro j hj
    have : j = 64 := by omega
    subst this
    refine br_t (by rw [e64]; exact nI_le (Nat.le_refl _) (by omega)) ?_
    rw [hfb] at H1 H2 ⊢
    by_cases c : ev_sc pc f 0 64 ≤ ev_cn (ev_Fo pc) 192
    · exact br_t (nI_le c (by omega)) (H1 c)
    · exact br_f (nI_ge (by omega) (by omega)) (H2 (by omega))
  | succ d ih =>
    intro j hj
    refine br_f (by rw [e64]; exact nI_ge (by omega) (by omega)) ⟨vp_in_nI (by omega) (by omega), ?_⟩
    rw [nI_clamp (by omega)]
    have nxt := ih (j + 1) (by omega)
    have esc : ev_sc pc f 0 (j + 1) = ev_sc pc f 0 j + (if pc (64 * f + (0 + j)) < 0 then 0 else 1) := rfl
    rw [Nat.zero_add] at esc
    by_cases c : pc (64 * f + j) < 0
    · refine br_t c (fun y ey => ?_)
      rw [nI_1] at ey
      subst ey
      rw [if_pos c, Nat.add_zero] at esc
      rw [esc] at nxt
      exact nxt
    · refine br_f c (fun x ex y ey => ?_)
      rw [nI_1] at ex ey
      subst ex
      subst ey
      rw [if_neg c] at esc
      rw [esc] at nxt
      exact nxt
end
section
variable {yk yf yl : Int32} {ya yi ym yz : Nat → Int32}
theorem ev_packY21 {post : Int32 → SY → Prop} {f : Nat} (gd : ev_gd ya) (hf : f < 8)
    (H1 : ev_sc ya f 0 64 ≤ ev_cn (ev_Fo ya) 192 → wpY_keep (fun u => match u with | (yk, yf, yl, ya, yi, ym, yz) => ∃ n67, wY_pack_67 post (nI f) n67 0 yk yf yl ya yi ym yz) (yk, yf, yl, ya, yi, ym, yz))
    (H2 : ev_cn (ev_Fo ya) 192 < ev_sc ya f 0 64 → post (-2) (yk, yf, yl, ya, yi, ym, yz)) :
    ∀ (d j : Nat), j + d = 64 → wY_pack_21 post (nI f) (nI (ev_cn (ev_Fo ya) 192)) yk yf yl ya yi ym yz (d + 1) (nI (ev_sc ya f 0 j)) (nI j) := by
  have c192 := ev_cn_le (ev_Fo ya) 192
  have c64 := ev_sc_le ya f 0 64
  intro d
  induction d with
  | zero =>
    intro j hj
    have : j = 64 := by omega
    subst this
    refine br_t (nI_le (a := 64) (Nat.le_refl _) (by omega)) ?_
    by_cases c : ev_sc ya f 0 64 ≤ ev_cn (ev_Fo ya) 192
    · exact br_t (nI_le c (by omega)) (H1 c)
    · exact br_f (nI_ge (by omega) (by omega)) (H2 (by omega))
  | succ d ih =>
    intro j hj
    refine br_f (nI_ge (b := 64) (by omega) (by omega)) ?_
    rw [ev_i64 hf (by omega)]
    refine ⟨vp_in_nI (by omega) (by omega), ?_⟩
    rw [nI_clamp (by omega)]
    have nxt := ih (j + 1) (by omega)
    have esc : ev_sc ya f 0 (j + 1) = ev_sc ya f 0 j + (if ya (64 * f + (0 + j)) < 0 then 0 else 1) := rfl
    rw [Nat.zero_add] at esc
    by_cases c : ya (64 * f + j) < 0
    · refine br_t c (fun y ey => ?_)
      rw [nI_1] at ey
      subst ey
      rw [if_pos c, Nat.add_zero] at esc
      rw [esc] at nxt
      exact nxt
    · refine br_f c (fun x ex y ey => ?_)
      rw [nI_1] at ex ey
      subst ex
      subst ey
      rw [if_neg c] at esc
      rw [esc] at nxt
      exact nxt
end
theorem i_vc_pack {k : Nat} {u : SX} {v : SY} (I : i_Rel k u v) (hk : k + 5 ≤ 2560) (v1 : Int32) : wpX_pack (fun r u' => wpY_pack (fun r' v' => r' = r ∧ i_Rel (k + 5) u' v') v v1) u v1 := by
  refine ev_el (P := fun u v => wpX_pack (fun r u' => wpY_pack (fun r' v' => r' = r ∧ i_Rel (k + 5) u' v') v v1) u v1) I ?_
  intro fb sp dp kp lg ls fd mn pc us it ln ks bl sz lf nx pv sr rt pa wy oa ov bg yk yf yl ya yi ym yz R
  have R0 := R
  obtain ⟨c, g, β, HP, HI, r1, r2, r3, r4, r5, r6, r7, r8, r9, r10, r11, r12, r13, r14⟩ := R
  unfold wpX_pack wpY_pack
  dsimp only
  by_cases c0 : ∃ j, j < 8 ∧ v1 = nI j
  · obtain ⟨f, hf, e1⟩ := c0
    subst e1
    subst r1 r2 r3 r4 r5 r6
    obtain ⟨sh, hsh⟩ : ∃ sh, sh = if c = 4 then 1 else 0 := ⟨_, rfl⟩
    have hs : sh ≤ c := by rw [hsh]; split <;> omega
    have gsh := ev_gsh r7 hsh r9
    have hfb : fb = nI (ev_cn (ev_Fo ya) 192) := by
      obtain ⟨_, _, _, _, _, q⟩ := r8
      exact q
    have c64 := ev_sc_le ya f 0 64
    have c64' : ev_sc ya f 0 (64 - 0) ≤ 64 := c64
    refine ev_inX1 (n := 8) hf (by omega) (br_f (by decide) (fun y ey => Exists.intro 65 ?_))
    have ey' : y = nI (64 * f) := by rw [ey]; exact pk_mul 64 f
    subst ey'
    refine ev_pack21 r8.1 hf hfb (fun hle => ?_) (fun hlt => ?_) 64 0 (by omega)
    · obtain ⟨pcF, itF, gF, hX, hY⟩ := ev_pack hf 64 0 ya yi (by omega) (by omega) r8.1 hle
      refine ev_begin (c := c) (g := g) r7 hsh r9 r10 r13 (fun oa' ov' bg' hbg' ch' => Exists.intro 65 ?_)
      have L0 := ev_op_start r9 hs r11 r12 ch'
      refine hX _ (g - β sh) (g - β sh) _ _ fb sp dp _ fd mn us ln ks bl sz lf nx pv sr rt pa wy oa' ov' bg' r8 L0 (by omega) (fun fd2 mn2 oa2 ov2 fb2 us2 ln2 sp2 dp2 ks2 bl2 sz2 lf2 nx2 pv2 sr2 rt2 pa2 wy2 L2 P2 => ?_)
      refine ev_inY1 (n := 8) hf (by omega) (br_f (by decide) ?_)
      refine ev_freeBlocks r8.1 (fun ym' _ => Exists.intro 65 ?_)
      refine ev_packY21 r8.1 hf (fun _ => ?_) (fun q => by omega) 64 0 (by omega)
      refine ev_keep (c := c) r7 hsh (fun yz' hy1 hy2 => Exists.intro 129 ?_)
      refine hY _ 129 _ yf yl ym' yz' (by omega) (fun yf2 yl2 ym2 => ⟨rfl, ?_⟩)
      exact ev_op_end r7 hsh r9 r11 r12 r14 hbg' hy1 hy2 L2 (by omega) P2
    · refine ev_inY1 (n := 8) hf (by omega) (br_f (by decide) ?_)
      refine ev_freeBlocks r8.1 (fun ym' _ => Exists.intro 65 ?_)
      exact ev_packY21 r8.1 hf (fun q => by omega) (fun _ => ⟨rfl, R0⟩) 64 0 (by omega)
  · exact ev_inX0 (n := 8) (by omega) c0 (br_t rfl (ev_inY0 (n := 8) (by omega) c0 (br_t rfl ⟨rfl, R0⟩)))
end
section
/-! write -/
/-- a piece without a block for itself -/
def ev_lk (pc : Nat → Int32) (k : Nat) : Bool := decide (pc k < 0 ∨ 1 < ev_cu pc (pc k).toNatClampNeg 512)
theorem ev_lk_t {pc : Nat → Int32} {k : Nat} : ev_lk pc k = true ↔ (pc k < 0 ∨ 1 < ev_cu pc (pc k).toNatClampNeg 512) := by unfold ev_lk; exact decide_eq_true_iff
def ev_lc (pc : Nat → Int32) (f a : Nat) : Nat → Nat
  | 0 => 0
  | j + 1 => ev_lc pc f a j + (if ev_lk pc (64 * f + (a + j)) = true then 1 else 0)
theorem ev_lc_add (pc : Nat → Int32) (f a i : Nat) : ∀ j, ev_lc pc f a (i + j) = ev_lc pc f a i + ev_lc pc f (a + i) j
  | 0 => rfl
  | j + 1 => by
      show ev_lc pc f a (i + j) + (if ev_lk pc (64 * f + (a + (i + j))) = true then 1 else 0) = ev_lc pc f a i + (ev_lc pc f (a + i) j + (if ev_lk pc (64 * f + (a + i + j)) = true then 1 else 0))
      rw [ev_lc_add pc f a i j, show a + (i + j) = a + i + j from by omega]
      omega
theorem ev_lc_all {pc : Nat → Int32} {f a : Nat} : ∀ {i}, (∀ p, a ≤ p → p < a + i → ev_lk pc (64 * f + p) = true) → ev_lc pc f a i = i
  | 0, _ => rfl
  | i + 1, h => by
      show ev_lc pc f a i + (if ev_lk pc (64 * f + (a + i)) = true then 1 else 0) = i + 1
      rw [ev_lc_all (fun p h1 h2 => h p h1 (by omega)), if_pos (h (a + i) (by omega) (by omega))]
theorem ev_lc_c {pc pc' : Nat → Int32} {f a : Nat} : ∀ {i}, (∀ p, a ≤ p → p < a + i → ev_lk pc' (64 * f + p) = ev_lk pc (64 * f + p)) → ev_lc pc' f a i = ev_lc pc f a i
  | 0, _ => rfl
  | i + 1, h => by
      show ev_lc pc' f a i + (if ev_lk pc' (64 * f + (a + i)) = true then 1 else 0) = ev_lc pc f a i + (if ev_lk pc (64 * f + (a + i)) = true then 1 else 0)
      rw [ev_lc_c (fun p h1 h2 => h p h1 (by omega)), h (a + i) (by omega) (by omega)]
theorem ev_lc_le (pc : Nat → Int32) (f a : Nat) : ∀ i, ev_lc pc f a i ≤ i
  | 0 => Nat.le_refl _
  | i + 1 => by
      have := ev_lc_le pc f a i
      show ev_lc pc f a i + (if ev_lk pc (64 * f + (a + i)) = true then 1 else 0) ≤ i + 1
      split <;> omega
/-- laying down pieces doesn't touch what the other pieces of the file have -/
theorem ev_lk_laid {pc pc1 : Nat → Int32} {f k e p : Nat} (g : ev_gd pc) (hf : f < 8) (he : e ≤ 64) (h : ev_laid (64 * f + k) (64 * f + e) pc pc1) (hp : p < 64) (hpk : p < k ∨ e ≤ p) : ev_lk pc1 (64 * f + p) = ev_lk pc (64 * f + p) := by
  obtain ⟨g1, f2, f3, f4⟩ := h
  have e1 : pc1 (64 * f + p) = pc (64 * f + p) := f2 _ (by omega)
  unfold ev_lk
  rw [e1]
  obtain ⟨o, ho, hob⟩ := g.1 (64 * f + p) (by omega)
  rw [ho]
  cases o with
  | none => rw [decide_eq_true (Or.inl (by decide)), decide_eq_true (Or.inl (by decide))]
  | some b =>
    have hb := hob b rfl
    have hpo : pc (64 * f + p) = nI b := ho
    rw [show (ev_o (some b)).toNatClampNeg = b from nI_clamp (by omega)]
    have ec : ev_cu pc1 b 512 = ev_cu pc b 512 := by
      refine ev_cu_c (fun j hj => ?_)
      by_cases c : j < 64 * f + k ∨ 64 * f + e ≤ j
      · rw [f2 j c]
      · obtain ⟨b', b1, b2, b3⟩ := f3 j (by omega) (by omega)
        constructor
        · intro q
          rw [b2] at q
          have : b' = b := (nI_eq (by omega) (by omega)).mp q
          subst this
          exact absurd hpo (b3 (64 * f + p) (by omega) (by omega))
        · intro q
          have := g.2.1 j (64 * f + p) b hj (by omega) hb q hpo
          omega
    rw [ec]
/-- a piece that lacks nothing has a block -/
theorem ev_lk_f {pc : Nat → Int32} {k : Nat} (g : ev_gd pc) (hk : k < 512) (h : ¬ ev_lk pc k = true) : ∃ b, b < 192 ∧ pc k = nI b := by
  obtain ⟨o, ho, hob⟩ := g.1 k hk
  cases o with
  | none => exact absurd (ev_lk_t.mpr (Or.inl (by rw [ho]; decide))) h
  | some b => exact ⟨b, hob b rfl, ho⟩
section
variable {fb sp dp kp lg ls fd mn : Int32} {pc us it ln ks bl sz lf nx pv sr rt pa wy oa ov bg : Nat → Int32}
theorem ev_lacks {post : Int32 → Prop} {k : Nat} (P : ev_PX pc fb us ln sp ks bl sz lf nx pv sr rt) (hk : k < 512) (H1 : ev_lk pc k = true → post 1) (H0 : ¬ ev_lk pc k = true → post 0) : wpX_lacks post (fb, sp, dp, kp, lg, ls, fd, mn, pc, us, it, ln, ks, bl, sz, lf, nx, pv, sr, rt, pa, wy, oa, ov, bg) (nI k) := by
  obtain ⟨o, ho, hob⟩ := P.1.1 k hk
  refine And.intro (vp_in_nI hk (by omega)) ?_
  rw [nI_clamp (by omega), ho]
  cases o with
  | none => exact br_t (show (-1 : Int32) < 0 by decide) (H1 (ev_lk_t.mpr (Or.inl (by rw [ho]; decide))))
  | some b =>
    have hb := hob b rfl
    have cb : (ev_o (some b)).toNatClampNeg = b := nI_clamp (by omega)
    have cl := ev_cu_le pc b 512
    refine br_f (show ¬ nI b < 0 from nI_pos (by omega)) ⟨vp_in_nI hk (by omega), vp_in_nI hb (by omega), ?_⟩
    rw [cb, P.2.1 b hb]
    by_cases c : ev_cu pc b 512 ≤ 1
    · refine br_t (nI_le (b := 1) c (by omega)) (H0 (fun q => ?_))
      rcases ev_lk_t.mp q with q | q
      · rw [ho] at q; exact absurd q (nI_pos (n := b) (by omega))
      · rw [ho, cb] at q; omega
    · exact br_f (nI_ge (a := 1) (by omega) (by omega)) (H1 (ev_lk_t.mpr (Or.inr (by rw [ho, cb]; omega))))
theorem ev_write92 {post : Int32 → SX → Prop} {J : Int32 → Int32 → Int32 → Int32 → Int32 → Int32 → Int32 → Int32 → Int32 → (Nat → Int32) → (Nat → Int32) → (Nat → Int32) → (Nat → Int32) → (Nat → Int32) → (Nat → Int32) → (Nat → Int32) → (Nat → Int32) → (Nat → Int32) → (Nat → Int32) → (Nat → Int32) → (Nat → Int32) → (Nat → Int32) → (Nat → Int32) → (Nat → Int32) → (Nat → Int32) → (Nat → Int32) → Prop}
    {f a n k e : Nat} {x4 x6 : Int32} (P : ev_PX pc fb us ln sp ks bl sz lf nx pv sr rt) (hf : f < 8) (ha : a + n ≤ 64) (he : e ≤ a + n) (h3 : ∀ p, k ≤ p → p < e → ev_lk pc (64 * f + p) = true) (h4 : e = a + n ∨ ¬ ev_lk pc (64 * f + e) = true)
    (H : wX_write_118 post J (nI f) (nI a) (nI n) x4 (nI (64 * f)) x6 (nI (64 * f + k)) (nI (64 * f + e)) fb sp dp kp lg ls fd mn pc us it ln ks bl sz lf nx pv sr rt pa wy oa ov bg) :
    ∀ (d j : Nat), j + d = e → k ≤ j → wX_write_92 post J (nI f) (nI a) (nI n) x4 (nI (64 * f)) x6 (nI (64 * f + k)) fb sp dp kp lg ls fd mn pc us it ln ks bl sz lf nx pv sr rt pa wy oa ov bg (d + 1) (nI (64 * f + j)) := by
  have ee : nI (64 * f) + nI a + nI n = nI (64 * f + a + n) := by rw [nI_add, nI_add]
  intro d
  induction d with
  | zero =>
    intro j hj hk
    have : j = e := by omega
    subst this
    by_cases c : j = a + n
    · exact br_t (by rw [ee, c]; exact nI_le (by omega) (by omega)) H
    · refine br_f (by rw [ee]; exact nI_ge (by omega) (by omega)) ?_
      exact ev_lacks P (by omega) (fun q => absurd q (h4.resolve_left c)) (fun _ => br_t rfl H)
  | succ d ih =>
    intro j hj hk
    refine br_f (by rw [ee]; exact nI_ge (by omega) (by omega)) ?_
    refine ev_lacks P (by omega) (fun _ => br_f (by decide) (fun y ey => ?_)) (fun q => absurd (h3 j hk (by omega)) q)
    rw [nI_1] at ey
    subst ey
    exact ih (j + 1) (by omega) (by omega)
def ev_wrX (f a n : Nat) (x4 x6 : Int32) (n77 k L : Nat) (pc it pcF : Nat → Int32) : Prop :=
  ∀ (post : Int32 → SX → Prop) (g0 g : Nat) (HP HI : Nat → Nat → Int32) (fb sp dp kp fd mn : Int32) (us ln ks bl sz lf nx pv sr rt pa wy oa ov bg : Nat → Int32),
    ev_PX pc fb us ln sp ks bl sz lf nx pv sr rt → ev_LX g0 HP HI g pc it oa ov → g + L ≤ 560 →
    (∀ fd' mn' oa' ov' fb' us' ln' sp' dp' ks' bl' sz' lf' nx' pv' sr' rt' pa' wy', ev_LX g0 HP HI (g + L) pcF it oa' ov' → ev_PX pcF fb' us' ln' sp' ks' bl' sz' lf' nx' pv' sr' rt' → ∃ n167, wX_write_167 post (nI a) (nI n) x4 (nI (64 * f)) x6 n167 0 fb' sp' dp' kp (nI (g + L)) 1 fd' mn' pcF us' it ln' ks' bl' sz' lf' nx' pv' sr' rt' pa' wy' oa' ov' bg) →
    wX_write_77 post (nI f) (nI a) (nI n) x4 (nI (64 * f)) x6 n77 (nI (64 * f + k)) fb sp dp kp (nI g) 1 fd mn pc us it ln ks bl sz lf nx pv sr rt pa wy oa ov bg
def ev_wrY (f a n : Nat) (x4 x6 : Int32) (m k : Nat) (ya yi yaF yiF : Nat → Int32) : Prop :=
  ∀ (post : Int32 → SY → Prop) (n75 : Nat) (yk yf yl : Int32) (ym yz : Nat → Int32), m < n75 →
    (∀ yf' yl' ym', ∃ n161, wY_write_161 post (nI a) (nI n) x4 (nI (64 * f)) x6 yk yf' yl' n161 (nI a) yaF yiF ym' yz) → wY_write_75 post (nI f) (nI a) (nI n) x4 (nI (64 * f)) x6 n75 (nI k) yk yf yl ya yi ym yz
end
section
variable {yk yf yl : Int32} {ya yi ym yz : Nat → Int32}
theorem ev_isOpen {post : Int32 → Prop} {k : Nat} (g : ev_gd ya) (h : ev_ct ya ym) (hk : k < 512) (H1 : ev_lk ya k = true → post 1) (H0 : ¬ ev_lk ya k = true → post 0) : wpY_isOpen post (yk, yf, yl, ya, yi, ym, yz) (nI k) := by
  obtain ⟨o, ho, hob⟩ := g.1 k hk
  refine And.intro (vp_in_nI hk (by omega)) ?_
  rw [nI_clamp (by omega), ho]
  cases o with
  | none => exact br_t (show (-1 : Int32) < 0 by decide) (H1 (ev_lk_t.mpr (Or.inl (by rw [ho]; decide))))
  | some b =>
    have hb := hob b rfl
    have cb : (ev_o (some b)).toNatClampNeg = b := nI_clamp (by omega)
    have cl := ev_cu_le ya b 512
    refine br_f (show ¬ nI b < 0 from nI_pos (by omega)) ⟨vp_in_nI hk (by omega), vp_in_nI hb (by omega), ?_⟩
    rw [cb, h b hb]
    by_cases c : ev_cu ya b 512 ≤ 1
    · refine br_t (nI_le (b := 1) c (by omega)) (H0 (fun q => ?_))
      rcases ev_lk_t.mp q with q | q
      · rw [ho] at q; exact absurd q (nI_pos (n := b) (by omega))
      · rw [ho, cb] at q; omega
    · exact br_f (nI_ge (a := 1) (by omega) (by omega)) (H1 (ev_lk_t.mpr (Or.inr (by rw [ho, cb]; omega))))
theorem ev_write91 {post : Int32 → SY → Prop} {J : Int32 → Int32 → Int32 → Int32 → (Nat → Int32) → (Nat → Int32) → (Nat → Int32) → (Nat → Int32) → Prop}
    {f a n k e : Nat} {x4 x6 : Int32} (g : ev_gd ya) (h : ev_ct ya ym) (hf : f < 8) (ha : a + n ≤ 64) (he : e ≤ a + n) (h3 : ∀ p, k ≤ p → p < e → ev_lk ya (64 * f + p) = true) (h4 : e = a + n ∨ ¬ ev_lk ya (64 * f + e) = true)
    (H : wY_write_117 post J (nI f) (nI a) (nI n) x4 (nI (64 * f)) x6 (nI k) (nI e) yk yf yl ya yi ym yz) :
    ∀ (d j : Nat), j + d = e → k ≤ j → wY_write_91 post J (nI f) (nI a) (nI n) x4 (nI (64 * f)) x6 (nI k) yk yf yl ya yi ym yz (d + 1) (nI j) := by
  intro d
  induction d with
  | zero =>
    intro j hj hk
    have : j = e := by omega
    subst this
    by_cases c : j = a + n
    · exact br_t (by rw [nI_add, c]; exact nI_le (by omega) (by omega)) H
    · refine br_f (by rw [nI_add]; exact nI_ge (by omega) (by omega)) ?_
      rw [nI_add]
      exact ev_isOpen g h (by omega) (fun q => absurd q (h4.resolve_left c)) (fun _ => br_t rfl H)
  | succ d ih =>
    intro j hj hk
    refine br_f (by rw [nI_add]; exact nI_ge (by omega) (by omega)) ?_
    rw [nI_add]
    refine ev_isOpen g h (by omega) (fun _ => br_f (by decide) (fun y ey => ?_)) (fun q => absurd (h3 j hk (by omega)) q)
    rw [nI_1] at ey
    subst ey
    exact ih (j + 1) (by omega) (by omega)
/-- a piece with a block for itself: the reference goes on by one -/
theorem ev_writeY1 {post : Int32 → SY → Prop} {f a n k m : Nat} {x4 x6 : Int32} (g : ev_gd ya) (hf : f < 8) (ha : a + n ≤ 64) (hk : k < a + n) (hh : ¬ ev_lk ya (64 * f + k) = true) (H : ∀ ym', wY_write_75 post (nI f) (nI a) (nI n) x4 (nI (64 * f)) x6 m (nI (k + 1)) yk yf yl ya yi ym' yz) : wY_write_75 post (nI f) (nI a) (nI n) x4 (nI (64 * f)) x6 (m + 1) (nI k) yk yf yl ya yi ym yz := by
  refine br_f (by rw [nI_add]; exact nI_ge (by omega) (by omega)) (ev_count g (fun ym' h => Exists.intro 1 ?_))
  refine ev_write91 (e := k) (ym := ym') g h hf ha (by omega) (fun p h1 h2 => by omega) (Or.inr hh) ?_ 0 k (by omega) (Nat.le_refl _)
  refine br_t (nI_le (Nat.le_refl _) (by omega)) (br_t (nI_le (Nat.le_refl _) (by omega)) (fun y ey => ?_))
  rw [nI_1] at ey
  subst ey
  exact H ym'
end
theorem ev_write {f a n : Nat} {x4 x6 : Int32} (hf : f < 8) (ha : a + n ≤ 64) :
    ∀ (d k : Nat) (pc itX itY : Nat → Int32), a + n ≤ k + d → a ≤ k → k ≤ a + n + 1 → ev_gd pc → ev_lc pc f k (a + n - k) ≤ ev_cn (ev_Fo pc) 192 → (∀ p, a ≤ p → p < k → p < a + n → ∃ b, b < 192 ∧ pc (64 * f + p) = nI b) →
      (∀ b, (192 ≤ b ∨ ∀ p, a ≤ p → p < k → p < a + n → pc (64 * f + p) ≠ nI b) → itY b = itX b) →
    ∃ pcF itYF, ev_gd pcF ∧ (∀ p, a ≤ p → p < a + n → ∃ b, b < 192 ∧ pcF (64 * f + p) = nI b) ∧ (∀ b, (192 ≤ b ∨ ∀ p, a ≤ p → p < a + n → pcF (64 * f + p) ≠ nI b) → itYF b = itX b) ∧
      ev_wrX f a n x4 x6 (d + 1) k (ev_lc pc f k (a + n - k)) pc itX pcF ∧ ev_wrY f a n x4 x6 (2 * d) (min k (a + n)) pc itY pcF itYF := by
  have ee : nI (64 * f) + nI a + nI n = nI (64 * f + a + n) := by rw [nI_add, nI_add]
  have fin : ∀ (d k : Nat) (pc itX itY : Nat → Int32), a + n ≤ k → k ≤ a + n + 1 → ev_wrX f a n x4 x6 (d + 1) k (ev_lc pc f k (a + n - k)) pc itX pc ∧ ev_wrY f a n x4 x6 (2 * d) (min k (a + n)) pc itY pc itY := by
    intro d k pc itX itY h1 h2
    refine ⟨?_, ?_⟩
    · intro post g0 g' HP HI fb sp dp kp fd mn us ln ks bl sz lf nx pv sr rt pa wy oa ov bg P L _ H
      have e0 : ev_lc pc f k (a + n - k) = 0 := by rw [show a + n - k = 0 from by omega]; rfl
      rw [e0, Nat.add_zero] at H
      exact br_t (by rw [ee]; exact nI_le (by omega) (by omega)) (H fd mn oa ov fb us ln sp dp ks bl sz lf nx pv sr rt pa wy L P)
    · intro post n75 yk yf yl ym yz hn H
      obtain ⟨m, rfl⟩ : ∃ m, n75 = m + 1 := ⟨n75 - 1, by omega⟩
      rw [show min k (a + n) = a + n from by omega]
      exact br_t (by rw [nI_add]; exact nI_le (Nat.le_refl _) (by omega)) (H yf yl ym)
  intro d
  induction d with
  | zero =>
    intro k pc itX itY h1 h2 h3 g hc hbl hag
    exact ⟨pc, itY, g, fun p p1 p2 => hbl p p1 (by omega) p2, fun b q => hag b (q.imp id (fun w p p1 _ p3 => w p p1 p3)), fin 0 k pc itX itY (by omega) h3⟩
  | succ d ih =>
    intro k pc itX itY h1 h2 h3 g hc hbl hag
    by_cases hk : a + n ≤ k
    · exact ⟨pc, itY, g, fun p p1 p2 => hbl p p1 (by omega) p2, fun b q => hag b (q.imp id (fun w p p1 _ p3 => w p p1 p3)), fin (d + 1) k pc itX itY hk h3⟩
    · obtain ⟨e, e1, e2, e3, e4⟩ := ev_scan (fun p => ev_lk pc (64 * f + p) = true) (a + n) (a + n - k) k (by omega)
      have cnt : ev_lc pc f k (a + n - k) = (e - k) + ev_lc pc f (e + 1) (a + n - (e + 1)) := by
        have b1 := ev_lc_add pc f k (e - k) (a + n - e)
        have al : ev_lc pc f k (e - k) = e - k := ev_lc_all (fun p p1 p2 => e3 p p1 (by omega))
        rw [show e - k + (a + n - e) = a + n - k from by omega, show k + (e - k) = e from by omega, al] at b1
        rw [b1]
        by_cases c : e = a + n
        · rw [c, Nat.sub_self, show a + n - (a + n + 1) = 0 from by omega]; rfl
        · have b := ev_lc_add pc f e 1 (a + n - (e + 1))
          rw [show 1 + (a + n - (e + 1)) = a + n - e from by omega] at b
          rw [b]
          have z : ev_lc pc f e 1 = 0 := by
            show 0 + (if ev_lk pc (64 * f + (e + 0)) = true then 1 else 0) = 0
            rw [Nat.add_zero, if_neg (e4.resolve_left c)]
          rw [z]; omega
      by_cases ck : e = k
      · subst ck
        have hne : ¬ ev_lk pc (64 * f + e) = true := e4.resolve_left (by omega)
        have hbe := ev_lk_f g (show 64 * f + e < 512 by omega) hne
        obtain ⟨pcF, itYF, gF, bF, aF, hX, hY⟩ := ih (e + 1) pc itX itY (by omega) (by omega) (by omega) g (by omega) (fun p p1 p2 p3 => by
          by_cases q : p = e
          · rw [q]; exact hbe
          · exact hbl p p1 (by omega) p3) (fun b q => hag b (q.imp id (fun w p p1 p2 p3 => w p p1 (by omega) p3)))
        refine ⟨pcF, itYF, gF, bF, aF, ?_, ?_⟩
        · intro post g0 g' HP HI fb sp dp kp fd mn us ln ks bl sz lf nx pv sr rt pa wy oa ov bg P L hr H
          rw [cnt, Nat.sub_self, Nat.zero_add] at hr H
          refine br_f (by rw [ee]; exact nI_ge (by omega) (by omega)) (Exists.intro 1 ?_)
          refine ev_write92 (e := e) P hf ha e2 e3 e4 ?_ 0 e (by omega) (Nat.le_refl _)
          refine br_t (nI_le (Nat.le_refl _) (by omega)) (fun y ey => ?_)
          rw [nI_1] at ey
          subst ey
          exact hX post g0 g' HP HI fb sp dp kp fd mn us ln ks bl sz lf nx pv sr rt pa wy oa ov bg P L hr H
        · intro post n75 yk yf yl ym yz hn H
          obtain ⟨m, rfl⟩ : ∃ m, n75 = m + 1 := ⟨n75 - 1, by omega⟩
          rw [show min e (a + n) = e from by omega]
          refine ev_writeY1 g hf ha (by omega) hne (fun ym' => ?_)
          have := hY post m yk yf yl ym' yz (by omega) H
          rw [show min (e + 1) (a + n) = e + 1 from by omega] at this
          exact this
      · -- what stands ahead of the row
        obtain ⟨bef, hbef, hbx, hby⟩ : ∃ bef : Option Nat, (∀ b, bef = some b → b < 192) ∧ (k = 0 → bef = none) ∧ (k ≠ 0 → pc (64 * f + k - 1) = ev_o bef) := by
          by_cases q : k = 0
          · exact ⟨none, fun b e => by simp at e, fun _ => rfl, fun h => absurd q h⟩
          · obtain ⟨o, ho, hob⟩ := g.1 (64 * f + k - 1) (by omega)
            exact ⟨o, hob, fun h => absurd h q, fun _ => ho⟩
        obtain ⟨pc1, itX1, itY1, hl, i1, _, i3, lX, lY⟩ := ev_lay (al := false) (file := f) (e := 64 * f + e) hf (by omega) (e - k) (64 * f + k) bef pc itX itY (by omega) (by omega) (by omega) g hbef (by omega) (fun q => by simp at q)
        have ei := i1 rfl
        subst ei
        have hl0 := hl
        obtain ⟨g1, f2, f3, f4⟩ := hl
        have same : ∀ p, p < 64 → (p < k ∨ e ≤ p) → ev_lk pc1 (64 * f + p) = ev_lk pc (64 * f + p) := fun p hp hpk => ev_lk_laid g hf (by omega) hl0 hp hpk
        have cnt1 : ev_lc pc1 f (e + 1) (a + n - (e + 1)) = ev_lc pc f (e + 1) (a + n - (e + 1)) := ev_lc_c (fun p p1 p2 => same p (by omega) (by omega))
        have blk1 : ∀ p, a ≤ p → p < e + 1 → p < a + n → ∃ b, b < 192 ∧ pc1 (64 * f + p) = nI b := by
          intro p p1 p2 p3
          by_cases c1 : p < k
          · rw [f2 (64 * f + p) (by omega)]; exact hbl p p1 c1 p3
          · by_cases c2 : p < e
            · obtain ⟨b, b1, b2, _⟩ := f3 (64 * f + p) (by omega) (by omega)
              exact ⟨b, b1, b2⟩
            · have : p = e := by omega
              subst this
              exact ev_lk_f g1 (by omega) (by rw [same p (by omega) (by omega)]; exact e4.resolve_left (by omega))
        obtain ⟨pcF, itYF, gF, bF, aF, hX, hY⟩ := ih (e + 1) pc1 itX1 itY1 (by omega) (by omega) (by omega) g1 (by omega) blk1 (fun b q => by
          rw [i3 b (q.imp id (fun w j j1 j2 => by
            have := w (j - 64 * f) (by omega) (by omega) (by omega)
            rw [show 64 * f + (j - 64 * f) = j from by omega] at this
            exact this))]
          refine hag b (q.imp id (fun w p p1 p2 p3 => ?_))
          have := w p p1 (by omega) p3
          rw [f2 (64 * f + p) (by omega)] at this
          exact this)
        refine ⟨pcF, itYF, gF, bF, aF, ?_, ?_⟩
        · intro post g0 g' HP HI fb sp dp kp fd mn us ln ks bl sz lf nx pv sr rt pa wy oa ov bg P L hr H
          refine br_f (by rw [ee]; exact nI_ge (by omega) (by omega)) (Exists.intro (e - k + 1) ?_)
          refine ev_write92 (e := e) P hf ha e2 e3 e4 ?_ (e - k) k (by omega) (Nat.le_refl _)
          refine br_f (nI_ge (by omega) (by omega)) ?_
          have eq : g' + (64 * f + e - (64 * f + k)) * 1 = g' + (e - k) := by rw [show 64 * f + e - (64 * f + k) = e - k from by omega]; omega
          have go : wX_write_151 post (wX_write_77 post (nI f) (nI a) (nI n) x4 (nI (64 * f)) x6 (d + 1)) (nI f) (nI a) (nI n) x4 (nI (64 * f)) x6 (nI (64 * f + e)) (ev_o bef) (nI (64 * f + e)) (nI (64 * f + k)) (nI f) fb sp dp kp (nI g') 1 fd mn pc us itX1 ln ks bl sz lf nx pv sr rt pa wy oa ov bg := by
            refine Exists.intro (e - k + 1) ?_
            refine lX _ g0 g' HP HI fb sp dp kp fd mn us ln ks bl sz lf nx pv sr rt pa wy oa ov bg P L (by rw [if_neg (by simp), eq]; omega) (fun fd2 mn2 oa2 ov2 fb2 us2 ln2 sp2 dp2 ks2 bl2 sz2 lf2 nx2 pv2 sr2 rt2 pa2 wy2 L2 P2 => ?_)
            intro y ey
            rw [nI_1] at ey
            subst ey
            rw [if_neg (by simp), eq] at L2 ⊢
            refine hX post g0 (g' + (e - k)) HP HI fb2 sp2 dp2 kp fd2 mn2 us2 ln2 ks2 bl2 sz2 lf2 nx2 pv2 sr2 rt2 pa2 wy2 oa2 ov2 bg P2 L2 (by omega) (fun fd3 mn3 oa3 ov3 fb3 us3 ln3 sp3 dp3 ks3 bl3 sz3 lf3 nx3 pv3 sr3 rt3 pa3 wy3 L3 P3 => ?_)
            have eq2 : g' + (e - k) + ev_lc pc1 f (e + 1) (a + n - (e + 1)) = g' + ev_lc pc f k (a + n - k) := by omega
            rw [eq2] at L3 ⊢
            exact H fd3 mn3 oa3 ov3 fb3 us3 ln3 sp3 dp3 ks3 bl3 sz3 lf3 nx3 pv3 sr3 rt3 pa3 wy3 L3 P3
          by_cases c : k = 0
          · have hn := hbx c
            subst hn
            exact br_t (nI_le (by omega) (by omega)) go
          · have e1m : nI (64 * f + k) - 1 = nI (64 * f + k - 1) := by
              rw [show 64 * f + k = (64 * f + k - 1) + 1 from by omega, nI_pred, Nat.add_sub_cancel]
            refine br_f (nI_ge (by omega) (by omega)) ?_
            rw [e1m]
            refine ⟨vp_in_nI (by omega) (by omega), ?_⟩
            rw [nI_clamp (n := 64 * f + k - 1) (by omega), hby c]
            exact go
        · intro post n75 yk yf yl ym yz hn H
          obtain ⟨m, rfl⟩ : ∃ m, n75 = m + 2 := ⟨n75 - 2, by omega⟩
          rw [show min k (a + n) = k from by omega]
          refine br_f (by rw [nI_add]; exact nI_ge (by omega) (by omega)) (ev_count g (fun ym' h => Exists.intro (e - k + 1) ?_))
          refine ev_write91 (e := e) (ym := ym') g h hf ha e2 e3 e4 ?_ (e - k) k (by omega) (Nat.le_refl _)
          refine br_f (nI_ge (by omega) (by omega)) ?_
          rw [pk_sub (by omega)]
          have go : wY_putDown_31 (fun u => match u with | (yk, yf, yl, ya, yi, ym, yz) => wY_write_137 post (wY_write_75 post (nI f) (nI a) (nI n) x4 (nI (64 * f)) x6 (m + 1)) (nI f) (nI a) (nI n) x4 (nI (64 * f)) x6 (nI k) (nI e) yk yf yl ya yi ym yz) (nI f) (nI k) (nI (e - k)) (e - k + 1) (nI 0) (ev_o bef) yk yf yl pc itY ym' yz := by
            refine lY _ k (e - k) 0 yk yf yl ym' yz (by omega) (by omega) (fun yf2 yl2 ym2 => ?_)
            refine br_f (nI_ge (by omega) (by omega)) ?_
            by_cases c : e = a + n
            · have := hY post (m + 1) yk yf2 yl2 ym2 yz (by omega) H
              rw [show min (e + 1) (a + n) = e from by omega] at this
              exact this
            · refine ev_writeY1 g1 hf ha (by omega) (by rw [same e (by omega) (by omega)]; exact e4.resolve_left c) (fun ym3 => ?_)
              have := hY post m yk yf2 yl2 ym3 yz (by omega) H
              rw [show min (e + 1) (a + n) = e + 1 from by omega] at this
              exact this
          refine br_t rfl ?_
          by_cases c : k = 0
          · have hn := hbx c
            subst hn
            refine br_t (by rw [c]; rfl) (Exists.intro (e - k + 1) ?_)
            exact go
          · refine br_f (nI_ne0 (by omega) (by omega)) ?_
            rw [ev_i64 hf (by omega), show nI (64 * f + k) - 1 = nI (64 * f + k - 1) from by rw [show 64 * f + k = (64 * f + k - 1) + 1 from by omega, nI_pred, Nat.add_sub_cancel]]
            refine ⟨vp_in_nI (by omega) (by omega), fun y ey => Exists.intro (e - k + 1) ?_⟩
            rw [nI_clamp (by omega), hby c] at ey
            subst ey
            exact go
end
section
/-! write: what is needed, the ints, the call -/
def ev_fi (pc it : Nat → Int32) (f a : Nat) (v : Int32) : Nat → Nat → Int32
  | 0 => it
  | j + 1 => upd (ev_fi pc it f a v j) (pc (64 * f + (a + j))).toNatClampNeg (v + nI j)
theorem ev_fi_eq {pc it it' : Nat → Int32} {f a : Nat} {v : Int32} {b : Nat} : ∀ {j}, (it' b = it b ∨ ∃ i, i < j ∧ (pc (64 * f + (a + i))).toNatClampNeg = b) → ev_fi pc it' f a v j b = ev_fi pc it f a v j b
  | 0, h => by
      rcases h with h | ⟨i, hi, _⟩
      · exact h
      · exact absurd hi (Nat.not_lt_zero _)
  | j + 1, h => by
      show upd (ev_fi pc it' f a v j) _ _ b = upd (ev_fi pc it f a v j) _ _ b
      by_cases c : b = (pc (64 * f + (a + j))).toNatClampNeg
      · rw [c, pk_us, pk_us]
      · rw [pk_un c, pk_un c]
        refine ev_fi_eq ?_
        rcases h with h | ⟨i, hi, e⟩
        · exact Or.inl h
        · refine Or.inr ⟨i, ?_, e⟩
          by_cases q : i = j
          · rw [q] at e; exact absurd e.symm c
          · omega
section
variable {fb sp dp kp lg ls fd mn : Int32} {pc us it ln ks bl sz lf nx pv sr rt pa wy oa ov bg : Nat → Int32}
theorem ev_write167 {post : Int32 → SX → Prop} {f a n g0 g : Nat} {HP HI : Nat → Nat → Int32} {v x6 : Int32} (gd : ev_gd pc) (hf : f < 8) (ha : a + n ≤ 64) (hb : ∀ p, a ≤ p → p < a + n → ∃ b, b < 192 ∧ pc (64 * f + p) = nI b) (hg : g + n ≤ 560)
    (H : ∀ oa' ov', ev_LX g0 HP HI (g + n) pc (ev_fi pc it f a v n) oa' ov' → post x6 (fb, sp, dp, kp, nI (g + n), 0, fd, mn, pc, us, ev_fi pc it f a v n, ln, ks, bl, sz, lf, nx, pv, sr, rt, pa, wy, oa', ov', bg)) :
    ∀ (d j : Nat) (oa ov : Nat → Int32), j + d = n → ev_LX g0 HP HI (g + j) pc (ev_fi pc it f a v j) oa ov →
    wX_write_167 post (nI a) (nI n) v (nI (64 * f)) x6 (d + 1) (nI j) fb sp dp kp (nI (g + j)) 1 fd mn pc us (ev_fi pc it f a v j) ln ks bl sz lf nx pv sr rt pa wy oa ov bg := by
  intro d
  induction d with
  | zero =>
    intro j oa ov hj L
    have : j = n := by omega
    subst this
    exact br_t (nI_le (Nat.le_refl _) (by omega)) (H oa ov L)
  | succ d ih =>
    intro j oa ov hj L
    obtain ⟨b, b1, b2⟩ := hb (a + j) (by omega) (by omega)
    refine br_f (nI_ge (by omega) (by omega)) ?_
    rw [nI_add, nI_add, show 64 * f + a + j = 64 * f + (a + j) from by omega]
    refine ⟨vp_in_nI (by omega) (by omega), ?_⟩
    rw [nI_clamp (show 64 * f + (a + j) < 2 ^ 31 by omega), b2]
    refine ev_fillL L gd (by omega) b1 (fun oa' ov' L' => ?_)
    intro y ey
    rw [nI_1] at ey
    subst ey
    have ei : upd (ev_fi pc it f a v j) b (v + nI j) = ev_fi pc it f a v (j + 1) := by
      show _ = upd (ev_fi pc it f a v j) (pc (64 * f + (a + j))).toNatClampNeg (v + nI j)
      rw [b2, nI_clamp (by omega)]
    rw [ei] at L' ⊢
    exact ih (j + 1) oa' ov' (by omega) L'
theorem ev_write26 {post : Int32 → SX → Prop} {f a n N : Nat} {v : Int32} (hN : ev_lc pc f a n = N) (P : ev_PX pc fb us ln sp ks bl sz lf nx pv sr rt) (hf : f < 8) (ha : a + n ≤ 64) (hfb : fb = nI (ev_cn (ev_Fo pc) 192))
    (H1 : ev_lc pc f a n ≤ ev_cn (ev_Fo pc) 192 → wpX_begin (fun u => match u with | (fb, sp, dp, kp, lg, ls, fd, mn, pc, us, it, ln, ks, bl, sz, lf, nx, pv, sr, rt, pa, wy, oa, ov, bg) => ∀ x7 : Int32, x7 = nI (64 * f) + nI a → ∃ n77, wX_write_77 post (nI f) (nI a) (nI n) v (nI (64 * f)) (nI N) n77 x7 fb sp dp kp lg ls fd mn pc us it ln ks bl sz lf nx pv sr rt pa wy oa ov bg) (fb, sp, dp, kp, lg, ls, fd, mn, pc, us, it, ln, ks, bl, sz, lf, nx, pv, sr, rt, pa, wy, oa, ov, bg))
    (H2 : ev_cn (ev_Fo pc) 192 < ev_lc pc f a n → post (-2) (fb, sp, dp, kp, lg, ls, fd, mn, pc, us, it, ln, ks, bl, sz, lf, nx, pv, sr, rt, pa, wy, oa, ov, bg)) :
    ∀ (d j : Nat), j + d = n → wX_write_26 post (nI f) (nI a) (nI n) v (nI (64 * f)) fb sp dp kp lg ls fd mn pc us it ln ks bl sz lf nx pv sr rt pa wy oa ov bg (d + 1) (nI (ev_lc pc f a j)) (nI (64 * f + (a + j))) := by
  have ee : nI (64 * f) + nI a + nI n = nI (64 * f + a + n) := by rw [nI_add, nI_add]
  have c192 := ev_cn_le (ev_Fo pc) 192
  have c64 := ev_lc_le pc f a n
  intro d
  induction d with
  | zero =>
    intro j hj
    have : j = n := by omega
    subst this
    refine br_t (by rw [ee]; exact nI_le (by omega) (by omega)) ?_
    rw [hfb] at H1 H2 ⊢
    rw [← hN] at H1
    by_cases c : ev_lc pc f a j ≤ ev_cn (ev_Fo pc) 192
    · exact br_t (nI_le c (by omega)) (H1 c)
    · exact br_f (nI_ge (by omega) (by omega)) (H2 (by omega))
  | succ d ih =>
    intro j hj
    refine br_f (by rw [ee]; exact nI_ge (by omega) (by omega)) ?_
    have nxt := ih (j + 1) (by omega)
    have esc : ev_lc pc f a (j + 1) = ev_lc pc f a j + (if ev_lk pc (64 * f + (a + j)) = true then 1 else 0) := rfl
    refine ev_lacks P (by omega) (fun q => br_f (by decide) (fun x ex y ey => ?_)) (fun q => br_t rfl (fun y ey => ?_))
    · rw [nI_1] at ex ey
      subst ex
      subst ey
      rw [if_pos q] at esc
      rw [esc] at nxt
      exact nxt
    · rw [nI_1] at ey
      subst ey
      rw [if_neg q, Nat.add_zero] at esc
      rw [esc] at nxt
      exact nxt
end
section
variable {yk yf yl : Int32} {ya yi ym yz : Nat → Int32}
theorem ev_write161 {post : Int32 → SY → Prop} {f a n : Nat} {v x6 : Int32} (hf : f < 8) (ha : a + n ≤ 64) (hb : ∀ p, a ≤ p → p < a + n → ∃ b, b < 192 ∧ ya (64 * f + p) = nI b)
    (H : post x6 (yk, yf, yl, ya, ev_fi ya yi f a v n, ym, yz)) :
    ∀ (d j : Nat), j + d = n → wY_write_161 post (nI a) (nI n) v (nI (64 * f)) x6 yk yf yl (d + 1) (nI (a + j)) ya (ev_fi ya yi f a v j) ym yz := by
  intro d
  induction d with
  | zero =>
    intro j hj
    have : j = n := by omega
    subst this
    exact br_t (by rw [nI_add]; exact nI_le (Nat.le_refl _) (by omega)) H
  | succ d ih =>
    intro j hj
    obtain ⟨b, b1, b2⟩ := hb (a + j) (by omega) (by omega)
    refine br_f (by rw [nI_add]; exact nI_ge (by omega) (by omega)) ?_
    rw [nI_add]
    refine ⟨vp_in_nI (by omega) (by omega), ?_⟩
    rw [nI_clamp (show 64 * f + (a + j) < 2 ^ 31 by omega), b2]
    refine ⟨vp_in_nI b1 (by omega), fun i ei y ey => ?_⟩
    rw [nI_1] at ey
    subst ey
    rw [nI_clamp (by omega), pk_sub (by omega), show a + j - a = j from by omega] at ei
    have ei' : i = ev_fi ya yi f a v (j + 1) := by
      rw [ei]
      show _ = upd (ev_fi ya yi f a v j) (ya (64 * f + (a + j))).toNatClampNeg (v + nI j)
      rw [b2, nI_clamp (by omega)]
    rw [ei']
    exact ih (j + 1) (by omega)
theorem ev_write29 {post : Int32 → SY → Prop} {f a n N : Nat} {v : Int32} (hN : ev_lc ya f a n = N) (g : ev_gd ya) (h : ev_ct ya ym) (hf : f < 8) (ha : a + n ≤ 64)
    (H1 : ev_lc ya f a n ≤ ev_cn (ev_Fo ya) 192 → wpY_keep (fun u => match u with | (yk, yf, yl, ya, yi, ym, yz) => ∃ n75, wY_write_75 post (nI f) (nI a) (nI n) v (nI (64 * f)) (nI N) n75 (nI a) yk yf yl ya yi ym yz) (yk, yf, yl, ya, yi, ym, yz))
    (H2 : ev_cn (ev_Fo ya) 192 < ev_lc ya f a n → post (-2) (yk, yf, yl, ya, yi, ym, yz)) :
    ∀ (d j : Nat), j + d = n → wY_write_29 post (nI f) (nI a) (nI n) v (nI (64 * f)) (nI (ev_cn (ev_Fo ya) 192)) yk yf yl ya yi ym yz (d + 1) (nI (ev_lc ya f a j)) (nI (a + j)) := by
  have c192 := ev_cn_le (ev_Fo ya) 192
  have c64 := ev_lc_le ya f a n
  intro d
  induction d with
  | zero =>
    intro j hj
    have : j = n := by omega
    subst this
    refine br_t (by rw [nI_add]; exact nI_le (Nat.le_refl _) (by omega)) ?_
    rw [← hN] at H1
    by_cases c : ev_lc ya f a j ≤ ev_cn (ev_Fo ya) 192
    · exact br_t (nI_le c (by omega)) (H1 c)
    · exact br_f (nI_ge (by omega) (by omega)) (H2 (by omega))
  | succ d ih =>
    intro j hj
    refine br_f (by rw [nI_add]; exact nI_ge (by omega) (by omega)) ?_
    rw [nI_add]
    have nxt := ih (j + 1) (by omega)
    have esc : ev_lc ya f a (j + 1) = ev_lc ya f a j + (if ev_lk ya (64 * f + (a + j)) = true then 1 else 0) := rfl
    refine ev_isOpen g h (by omega) (fun q => br_f (by decide) (fun x ex y ey => ?_)) (fun q => br_t rfl (fun y ey => ?_))
    · rw [nI_1] at ex ey
      subst ex
      subst ey
      rw [if_pos q] at esc
      rw [esc] at nxt
      exact nxt
    · rw [nI_1] at ey
      subst ey
      rw [if_neg q, Nat.add_zero] at esc
      rw [esc] at nxt
      exact nxt
end
theorem i_vc_write {k : Nat} {u : SX} {v : SY} (I : i_Rel k u v) (hk : k + 5 ≤ 2560) (v1 : Int32) (v2 : Int32) (v3 : Int32) (v4 : Int32) : wpX_write (fun r u' => wpY_write (fun r' v' => r' = r ∧ i_Rel (k + 5) u' v') v v1 v2 v3 v4) u v1 v2 v3 v4 := by
  refine ev_el (P := fun u v => wpX_write (fun r u' => wpY_write (fun r' v' => r' = r ∧ i_Rel (k + 5) u' v') v v1 v2 v3 v4) u v1 v2 v3 v4) I ?_
  intro fb sp dp kp lg ls fd mn pc us it ln ks bl sz lf nx pv sr rt pa wy oa ov bg yk yf yl ya yi ym yz R
  have R0 := R
  obtain ⟨c, g, β, HP, HI, r1, r2, r3, r4, r5, r6, r7, r8, r9, r10, r11, r12, r13, r14⟩ := R
  unfold wpX_write wpY_write
  dsimp only
  by_cases c0 : ev_row v1 v2 v3
  · obtain ⟨f, a, n, h1, h2, h3, h4, e1, e2, e3⟩ := c0
    subst e1 e2 e3 r1 r2 r3 r4 r5 r6
    obtain ⟨sh, hsh⟩ : ∃ sh, sh = if c = 4 then 1 else 0 := ⟨_, rfl⟩
    have hs : sh ≤ c := by rw [hsh]; split <;> omega
    have gsh := ev_gsh r7 hsh r9
    have hfb : fb = nI (ev_cn (ev_Fo ya) 192) := by
      obtain ⟨_, _, _, _, _, q⟩ := r8
      exact q
    have c64 := ev_lc_le ya f a n
    refine ev_fits1 h1 h2 h3 h4 (br_f (by decide) (fun x5 e5 x7 e7 => Exists.intro (n + 1) ?_))
    have e5' : x5 = nI (64 * f) := by rw [e5]; exact pk_mul 64 f
    subst e5'
    rw [nI_add] at e7
    subst e7
    refine ev_write26 rfl r8 h1 h4 hfb (fun hle => ?_) (fun hlt => ?_) n 0 (by omega)
    · obtain ⟨pcF, itYF, gF, bF, aF, hX, hY⟩ := ev_write (x4 := v4) (x6 := nI (ev_lc ya f a n)) h1 h4 n a ya yi yi (by omega) (Nat.le_refl _) (by omega) r8.1 (by rw [show a + n - a = n from by omega]; exact hle) (fun p p1 p2 _ => by omega) (fun _ _ => rfl)
      rw [show a + n - a = n from by omega] at hX
      refine ev_begin (c := c) (g := g) r7 hsh r9 r10 r13 (fun oa' ov' bg' hbg' ch' => ?_)
      have L0 := ev_op_start r9 hs r11 r12 ch'
      intro x7 e7
      rw [nI_add] at e7
      subst e7
      refine Exists.intro (n + 1) ?_
      refine hX _ (g - β sh) (g - β sh) _ _ fb sp dp _ fd mn us ln ks bl sz lf nx pv sr rt pa wy oa' ov' bg' r8 L0 (by omega) (fun fd2 mn2 oa2 ov2 fb2 us2 ln2 sp2 dp2 ks2 bl2 sz2 lf2 nx2 pv2 sr2 rt2 pa2 wy2 L2 P2 => Exists.intro (n + 1) ?_)
      refine ev_write167 (f := f) (a := a) (n := n) (v := v4) (g := g - β sh + ev_lc ya f a n) gF h1 h4 bF (by omega) (fun oa3 ov3 L3 => ?_) n 0 oa2 ov2 (by omega) L2
      refine ev_isRow1 h1 h2 h3 h4 (br_f (by decide) (fun y5 f5 => ?_))
      have f5' : y5 = nI (64 * f) := by rw [f5]; exact pk_mul 64 f
      subst f5'
      refine ev_freeBlocks r8.1 (fun ym' hct => Exists.intro (n + 1) ?_)
      refine ev_write29 (ym := ym') rfl r8.1 hct h1 h4 (fun _ => ?_) (fun q => by omega) n 0 (by omega)
      refine ev_keep (c := c) r7 hsh (fun yz' hy1 hy2 => Exists.intro (2 * n + 1) ?_)
      have hY' := hY
      rw [show min a (a + n) = a from by omega] at hY'
      refine hY' _ (2 * n + 1) _ yf yl ym' yz' (by omega) (fun yf2 yl2 ym2 => Exists.intro (n + 1) ?_)
      refine ev_write161 (f := f) (a := a) (n := n) (v := v4) h1 h4 bF ?_ n 0 (by omega)
      have eF : ev_fi pcF itYF f a v4 n = ev_fi pcF yi f a v4 n := by
        funext b
        refine ev_fi_eq ?_
        by_cases q : ∃ i, i < n ∧ (pcF (64 * f + (a + i))).toNatClampNeg = b
        · exact Or.inr q
        · left
          refine aF b ?_
          by_cases q2 : 192 ≤ b
          · exact Or.inl q2
          · right
            intro p p1 p2 e
            refine q ⟨p - a, by omega, ?_⟩
            rw [show a + (p - a) = p from by omega, e, nI_clamp (by omega)]
      rw [eF]
      exact ⟨rfl, ev_op_end r7 hsh r9 r11 r12 r14 hbg' hy1 hy2 L3 (by omega) P2⟩
    · refine ev_isRow1 h1 h2 h3 h4 (br_f (by decide) (fun y5 f5 => ?_))
      have f5' : y5 = nI (64 * f) := by rw [f5]; exact pk_mul 64 f
      subst f5'
      refine ev_freeBlocks r8.1 (fun ym' hct => Exists.intro (n + 1) ?_)
      exact ev_write29 (ym := ym') rfl r8.1 hct h1 h4 (fun q => by omega) (fun _ => ⟨rfl, R0⟩) n 0 (by omega)
  · exact ev_fits0 c0 (br_t rfl (ev_isRow0 c0 (br_t rfl ⟨rfl, R0⟩)))
end
section
/-! back -/
theorem ev_ch_hi {g : Nat} {HP HI : Nat → Nat → Int32} {oa ov : Nat → Int32} (h : ev_ch g HP HI oa ov) {b : Nat} (hb : 192 ≤ b) : ∀ d j, j + d = g → HI j b = HI g b
  | 0, j, e => by rw [show j = g from by omega]
  | d + 1, j, e => by
      rw [← ev_ch_hi h hb d (j + 1) (by omega)]
      rcases h.1 j (by omega) with ⟨k, hk, _, _, e2, _⟩ | ⟨b', hb', _, e2, _⟩
      · rw [e2]
      · rw [e2, pk_un (by omega)]
section
variable {fb sp dp kp lg ls fd mn : Int32} {pc us it ln ks bl sz lf nx pv sr rt pa wy oa ov bg : Nat → Int32}
theorem ev_back32 {post : Int32 → SX → Prop} {J : Int32 → Int32 → Int32 → Int32 → Int32 → Int32 → Int32 → Int32 → Int32 → (Nat → Int32) → (Nat → Int32) → (Nat → Int32) → (Nat → Int32) → (Nat → Int32) → (Nat → Int32) → (Nat → Int32) → (Nat → Int32) → (Nat → Int32) → (Nat → Int32) → (Nat → Int32) → (Nat → Int32) → (Nat → Int32) → (Nat → Int32) → (Nat → Int32) → (Nat → Int32) → (Nat → Int32) → Prop}
    {g B c : Nat} {HP HI : Nat → Nat → Int32} {x1 x2 : Int32} (ch : ev_ch g HP HI oa ov) (hg : g ≤ 560) (hc : c < 4) (hbg : bg c = nI B)
    (HJ : ∀ fb' us' ln' sp' dp' ks' bl' sz' lf' nx' pv' sr' rt' pa' wy', ev_PX (HP B) fb' us' ln' sp' ks' bl' sz' lf' nx' pv' sr' rt' → J (x2 + 1) fb' sp' dp' (nI c) (nI B) 0 fd mn (HP B) us' (HI B) ln' ks' bl' sz' lf' nx' pv' sr' rt' pa' wy' oa ov bg) :
    ∀ (d : Nat) (fb : Int32) (us ln : Nat → Int32) (sp dp : Int32) (ks bl sz lf nx pv sr rt pa wy : Nat → Int32), B + d ≤ g → ev_PX (HP (B + d)) fb us ln sp ks bl sz lf nx pv sr rt →
    wX_back_32 post J x1 x2 (d + 1) fb sp dp (nI c) (nI (B + d)) 0 fd mn (HP (B + d)) us (HI (B + d)) ln ks bl sz lf nx pv sr rt pa wy oa ov bg := by
  intro d
  induction d with
  | zero =>
    intro fb us ln sp dp ks bl sz lf nx pv sr rt pa wy hd P
    refine And.intro (vp_in_nI hc (by omega)) ?_
    rw [nI_clamp (by omega), hbg]
    refine br_t (nI_le (Nat.le_refl _) (by omega)) (fun y ey => ?_)
    subst ey
    exact HJ fb us ln sp dp ks bl sz lf nx pv sr rt pa wy P
  | succ d ih =>
    intro fb us ln sp dp ks bl sz lf nx pv sr rt pa wy hd P
    refine And.intro (vp_in_nI hc (by omega)) ?_
    rw [nI_clamp (by omega), hbg]
    refine br_f (nI_ge (by omega) (by omega)) (fun y ey => ?_)
    rw [show B + (d + 1) = B + d + 1 from by omega, nI_pred] at ey
    subst ey
    have hi : vp_in (nI (B + d)) 560 := vp_in_nI (by omega) (by omega)
    refine ⟨hi, fun x ex => ?_⟩
    rw [nI_clamp (by omega)] at ex
    rw [nI_clamp (show B + d < 2 ^ 31 by omega)]
    rcases ch.1 (B + d) (by omega) with ⟨k, hk, e1, e2, e3, e4⟩ | ⟨b, hb, e1, e2, e3⟩
    · rw [e1] at ex
      subst ex
      have gB := ch.2 (B + d) (by omega)
      obtain ⟨o, ho, hob⟩ := gB.1 k hk
      have ev : ov (B + d) = ev_o o := by rw [e4]; exact ho
      rw [ev] at e2
      refine br_f (nI_ge (b := 512) hk (by omega)) ⟨hi, ?_⟩
      rw [ev]
      rw [show B + (d + 1) = B + d + 1 from by omega] at P ⊢
      refine ev_put0 (o := o) P hk hob (by rw [← e2]; exact gB) (fun fb' us' ln' sp' dp' ks' bl' sz' lf' nx' pv' sr' rt' pa' wy' P' => ?_)
      rw [← e2] at P'
      have := ih fb' us' ln' sp' dp' ks' bl' sz' lf' nx' pv' sr' rt' pa' wy' (by omega) P'
      show wX_back_32 post J x1 x2 (d + 1) _ _ _ _ _ _ _ _ (upd (HP (B + d + 1)) k (ev_o o)) _ _ _ _ _ _ _ _ _ _ _ _ _ _ _ _
      rw [← e2, ← e3]
      exact this
    · rw [e1] at ex
      subst ex
      refine br_t (nI_le (a := 512) (by omega) (by omega)) ?_
      rw [show nI (512 + b) - (512 : Int32) = nI b from by
        have := pk_sub (a := 512 + b) (b := 512) (by omega)
        rw [show 512 + b - 512 = b from by omega] at this
        exact this]
      refine ⟨hi, vp_in_nI hb (by omega), fun i ei => ?_⟩
      rw [nI_clamp (by omega)] at ei
      rw [show B + (d + 1) = B + d + 1 from by omega] at P ei ⊢
      rw [← e2] at ei
      rw [← e3] at P ⊢
      rw [ei]
      exact ih fb us ln sp dp ks bl sz lf nx pv sr rt pa wy (by omega) P
theorem ev_back17 {post : Int32 → SX → Prop} {c g n : Nat} {β : Nat → Nat} {HP HI : Nat → Nat → Int32} (hc : c ≤ 4) (hn : n ≤ c) (be : ev_be c g β) (ch : ev_ch g HP HI oa ov) (hbg : ∀ i, i < c → bg i = nI (β i))
    (H : ∀ fb' us' ln' sp' dp' ks' bl' sz' lf' nx' pv' sr' rt' pa' wy', ev_PX (HP (β (c - n))) fb' us' ln' sp' ks' bl' sz' lf' nx' pv' sr' rt' → post 1 (fb', sp', dp', nI (c - n), nI (β (c - n)), 0, fd, mn, HP (β (c - n)), us', HI (β (c - n)), ln', ks', bl', sz', lf', nx', pv', sr', rt', pa', wy', oa, ov, bg)) :
    ∀ (d i : Nat) (fb : Int32) (us ln : Nat → Int32) (sp dp : Int32) (ks bl sz lf nx pv sr rt pa wy : Nat → Int32), i + d = n → ev_PX (HP (β (c - i))) fb us ln sp ks bl sz lf nx pv sr rt →
    wX_back_17 post (nI n) (d + 1) (nI i) fb sp dp (nI (c - i)) (nI (β (c - i))) 0 fd mn (HP (β (c - i))) us (HI (β (c - i))) ln ks bl sz lf nx pv sr rt pa wy oa ov bg := by
  have g512 : g ≤ 512 := by
    have := ev_be_le be c (Nat.le_refl _)
    rw [be.2.1] at this
    omega
  intro d
  induction d with
  | zero =>
    intro i fb us ln sp dp ks bl sz lf nx pv sr rt pa wy hi P
    have : i = n := by omega
    subst this
    exact br_t (nI_le (Nat.le_refl _) (by omega)) (H fb us ln sp dp ks bl sz lf nx pv sr rt pa wy P)
  | succ d ih =>
    intro i fb us ln sp dp ks bl sz lf nx pv sr rt pa wy hi P
    refine br_f (nI_ge (by omega) (by omega)) (fun y ey => ?_)
    have ey' : y = nI (c - (i + 1)) := by
      rw [ey, show c - i = (c - (i + 1)) + 1 from by omega, nI_pred]
    subst ey'
    have m1 := ev_be_mono be (c - i) (c - (i + 1)) (by omega) (by omega)
    have m2 := ev_be_mono be c (c - i) (by omega) (Nat.le_refl _)
    rw [be.2.1] at m2
    refine Exists.intro (β (c - i) - β (c - (i + 1)) + 1) ?_
    have := ev_back32 (post := post) (J := wX_back_17 post (nI n) (d + 1)) (x1 := nI n) (x2 := nI i) (B := β (c - (i + 1))) (c := c - (i + 1)) (fd := fd) (mn := mn) ch (by omega) (by omega) (hbg _ (by omega)) (fun fb' us' ln' sp' dp' ks' bl' sz' lf' nx' pv' sr' rt' pa' wy' P' => by
      rw [nI_1]
      exact ih (i + 1) fb' us' ln' sp' dp' ks' bl' sz' lf' nx' pv' sr' rt' pa' wy' (by omega) P')
      (β (c - i) - β (c - (i + 1))) fb us ln sp dp ks bl sz lf nx pv sr rt pa wy (by omega) (by rw [show β (c - (i + 1)) + (β (c - i) - β (c - (i + 1))) = β (c - i) from by omega]; exact P)
    rw [show β (c - (i + 1)) + (β (c - i) - β (c - (i + 1))) = β (c - i) from by omega] at this
    exact this
end
section
variable {yk yf yl : Int32} {ya yi ym yz : Nat → Int32}
theorem ev_backY63 {post : Int32 → SY → Prop} {c : Nat} {t : Nat → Int32} (hc : c < 4) (as : ∀ b, b < 192 → yz (704 * c + 512 + b) = t b) (H : ∀ yi', (∀ b, b < 192 → yi' b = t b) → (∀ b, 192 ≤ b → yi' b = yi b) → post 1 (nI c, yf, yl, ya, yi', ym, yz)) :
    ∀ (d i : Nat) (z : Nat → Int32), i + d = 192 → (∀ b, b < i → z b = t b) → (∀ b, 192 ≤ b → z b = yi b) → wY_back_63 post (nI c) yf yl (d + 1) (nI i) ya z ym yz := by
  intro d
  induction d with
  | zero =>
    intro i z hi h1 h2
    have : i = 192 := by omega
    subst this
    exact br_t (nI_le (a := 192) (Nat.le_refl _) (by omega)) (H z h1 h2)
  | succ d ih =>
    intro i z hi h1 h2
    have ei : (704 : Int32) * nI c + 512 + nI i = nI (704 * c + 512 + i) := by
      show nI 704 * nI c + nI 512 + nI i = _
      rw [pk_mul, nI_add, nI_add]
    refine br_f (nI_ge (b := 192) (by omega) (by omega)) ?_
    rw [ei]
    refine ⟨vp_in_nI (by omega) (by omega), vp_in_nI (by omega) (by omega), fun w ew y ey => ?_⟩
    rw [nI_1] at ey
    subst ey
    rw [nI_clamp (by omega), nI_clamp (by omega), as i (by omega)] at ew
    refine ih (i + 1) w (by omega) (fun b hb => ?_) (fun b hb => ?_)
    · by_cases e : b = i
      · rw [ew, e, pk_us]
      · rw [ew, pk_un e]; exact h1 b (by omega)
    · rw [ew, pk_un (by omega)]; exact h2 b hb
theorem ev_backY27 {post : Int32 → SY → Prop} {c : Nat} {p t : Nat → Int32} (hc : c < 4) (as : ev_as yz c p t) (H : ∀ ya' yi', (∀ k, k < 512 → ya' k = p k) → (∀ k, 512 ≤ k → ya' k = ya k) → (∀ b, b < 192 → yi' b = t b) → (∀ b, 192 ≤ b → yi' b = yi b) → post 1 (nI c, yf, yl, ya', yi', ym, yz)) :
    ∀ (d i : Nat) (z : Nat → Int32), i + d = 512 → (∀ k, k < i → z k = p k) → (∀ k, 512 ≤ k → z k = ya k) → wY_back_27 post (nI c) yf yl (d + 1) (nI i) z yi ym yz := by
  intro d
  induction d with
  | zero =>
    intro i z hi h1 h2
    have : i = 512 := by omega
    subst this
    refine br_t (nI_le (a := 512) (Nat.le_refl _) (by omega)) (Exists.intro 193 ?_)
    exact ev_backY63 (t := t) hc as.2 (fun yi' a b => H z yi' h1 h2 a b) 192 0 yi (by omega) (fun b hb => absurd hb (Nat.not_lt_zero _)) (fun _ _ => rfl)
  | succ d ih =>
    intro i z hi h1 h2
    have ei : (704 : Int32) * nI c + nI i = nI (704 * c + i) := by
      show nI 704 * nI c + nI i = _
      rw [pk_mul, nI_add]
    refine br_f (nI_ge (b := 512) (by omega) (by omega)) ?_
    rw [ei]
    refine ⟨vp_in_nI (by omega) (by omega), vp_in_nI (by omega) (by omega), fun w ew y ey => ?_⟩
    rw [nI_1] at ey
    subst ey
    rw [nI_clamp (by omega), nI_clamp (by omega), as.1 i (by omega)] at ew
    refine ih (i + 1) w (by omega) (fun k hk => ?_) (fun k hk => ?_)
    · by_cases e : k = i
      · rw [ew, e, pk_us]
      · rw [ew, pk_un e]; exact h1 k (by omega)
    · rw [ew, pk_un (by omega)]; exact h2 k hk
end
theorem i_vc_back {k : Nat} {u : SX} {v : SY} (I : i_Rel k u v) (hk : k + 5 ≤ 2560) (v1 : Int32) : wpX_back (fun r u' => wpY_back (fun r' v' => r' = r ∧ i_Rel (k + 5) u' v') v v1) u v1 := by
  refine ev_el (P := fun u v => wpX_back (fun r u' => wpY_back (fun r' v' => r' = r ∧ i_Rel (k + 5) u' v') v v1) u v1) I ?_
  intro fb sp dp kp lg ls fd mn pc us it ln ks bl sz lf nx pv sr rt pa wy oa ov bg yk yf yl ya yi ym yz R
  have R0 := R
  obtain ⟨c, g, β, HP, HI, r1, r2, r3, r4, r5, r6, r7, r8, r9, r10, r11, r12, r13, r14⟩ := R
  unfold wpX_back wpY_back
  dsimp only
  by_cases c1 : v1 < 1
  · exact br_t c1 (br_t c1 ⟨rfl, R0⟩)
  · refine br_f c1 ?_
    have c1' : ¬ v1 < 0 := fun q => c1 (by
      have := Int32.lt_iff_toInt_lt.mp q
      rw [Int32.lt_iff_toInt_lt]
      have e1 : (1 : Int32).toInt = 1 := by decide
      have e0 : (0 : Int32).toInt = 0 := by decide
      omega)
    obtain ⟨n, hn, e⟩ := nI_of c1'
    subst e
    rw [show (1 : Int32) = nI 1 from rfl, nI_ltI hn (by omega)] at c1
    by_cases c2 : n ≤ c
    · subst r1 r2 r3 r4 r5 r6
      refine br_t (nI_le c2 (by omega)) (Exists.intro (n + 1) ?_)
      have gc : β (c - 0) = g := r9.2.1
      have := ev_back17 (post := fun r u' => ((nI n < 1 → 0 = r ∧ i_Rel (k + 5) u' (nI c, yf, yl, ya, yi, ym, yz)) ∧ (¬ nI n < 1 → ((nI n ≤ nI c → ∀ y : Int32, y = nI c - nI n → ∃ n27, wY_back_27 (fun r' v' => r' = r ∧ i_Rel (k + 5) u' v') y yf yl n27 0 ya yi ym yz) ∧ (¬ nI n ≤ nI c → 0 = r ∧ i_Rel (k + 5) u' (nI c, yf, yl, ya, yi, ym, yz)))))) (fd := fd) (mn := mn) (bg := bg) r7 c2 r9 r10 r13 (fun fb' us' ln' sp' dp' ks' bl' sz' lf' nx' pv' sr' rt' pa' wy' P' => ?_) n 0 fb us ln sp dp ks bl sz lf nx pv sr rt pa wy (by omega) (by rw [gc, r11]; exact r8)
      · rw [gc, r11, r12] at this
        exact this
      · refine br_f (nI_nlt (b := 1) (by omega) (by omega)) (br_t (nI_le c2 (by omega)) (fun y ey => Exists.intro 513 ?_))
        rw [pk_sub c2] at ey
        subst ey
        have m2 := ev_be_mono r9 c (c - n) (by omega) (Nat.le_refl _)
        rw [r9.2.1] at m2
        have gB := r10.2 (β (c - n)) m2
        refine ev_backY27 (p := HP (β (c - n))) (t := HI (β (c - n))) (by omega) (r14 (c - n) (by omega)) (fun ya' yi' a1 a2 a3 a4 => ?_) 512 0 ya (by omega) (fun k hk => absurd hk (Nat.not_lt_zero _)) (fun _ _ => rfl)
        have ea : ya' = HP (β (c - n)) := by
          funext j
          by_cases q : j < 512
          · exact a1 j q
          · rw [a2 j (by omega), r8.1.2.2 j (by omega), gB.2.2 j (by omega)]
        have ei : yi' = HI (β (c - n)) := by
          funext b
          by_cases q : b < 192
          · exact a3 b q
          · rw [a4 b (by omega), ev_ch_hi r10 (by omega) (g - β (c - n)) (β (c - n)) (by omega), r12]
        rw [ea, ei]
        exact ⟨rfl, c - n, β (c - n), β, HP, HI, rfl, rfl, rfl, rfl, rfl, rfl, by omega, P', ⟨r9.1, rfl, fun i hi => r9.2.2 i (by omega)⟩, ⟨fun j hj => r10.1 j (by omega), fun j hj => r10.2 j (by omega)⟩, rfl, rfl, fun i hi => r13 i (by omega), fun i hi => r14 i (by omega)⟩
    · have hX : ¬ nI n ≤ kp := by rw [r2]; exact nI_ge (by omega) hn
      have hY : ¬ nI n ≤ yk := by rw [r4]; exact nI_ge (by omega) hn
      exact br_f hX (br_f (nI_nlt (b := 1) (by omega) (by omega)) (br_f hY ⟨rfl, R0⟩))
end
section
/-! the constructors -/
theorem ev_sl_get {j m : Nat} (h : ((List.range 198).map (fun j => 199 - j))[j]? = some m) : j < 198 ∧ m = 199 - j := by
  rw [List.getElem?_map] at h
  cases hr : (List.range 198)[j]? with
  | none => rw [hr] at h; simp at h
  | some i =>
    have hj := (List.getElem?_eq_some_iff.mp hr).1
    rw [List.length_range] at hj
    rw [List.getElem?_range hj] at hr
    have hi : j = i := by simpa using hr
    rw [List.getElem?_range hj] at h
    have : 199 - j = m := by simpa using h
    exact ⟨hj, this.symm⟩
theorem ev_TI0 {ks bl sz lf nx pv sr rt : Nat → Int32} (hz : ∀ n, n < 200 → sz n = nI 0) (hl : ∀ t, t < 2 → lf t = 1) (hn : ∀ t, t < 2 → nx t = -1) (hp : ∀ t, t < 2 → pv t = -1) (hs : ∀ j, j < 198 → sr j = nI (199 - j)) (hr : ∀ t, t < 2 → rt t = nI t) :
    ev_TI (fun _ => []) (nI 198) ks bl sz lf nx pv sr rt := by
  refine ⟨fun _ => [], fun _ => 0, fun t i => if i = 0 then [t] else [], (List.range 198).map (fun j => 199 - j), fun n => if n < 2 then n + 1 else 0, fun n h => ⟨by simp, hz n h, fun k e he => by simp at he⟩, fun t ht => ?_, fun t ht i n hi hm => ?_, ⟨fun t i ht hi => ?_, ?_, fun n hm => ?_, ?_⟩, fun t ht => ⟨fun i n hi hm => ?_, ?_, ?_⟩, by simp, fun j m hm => ?_, fun t ht => ⟨t, by simp, hr t ht⟩⟩
  · exact ⟨⟨t, by simp⟩, fun i hi => absurd hi (Nat.not_lt_zero _), fun i m e h1 hi => absurd hi (Nat.not_lt_zero _), fun h1 => absurd h1 (Nat.not_succ_le_zero _), by simp, by simp⟩
  · exact ⟨fun _ => ⟨Or.inl rfl, by simp⟩, fun _ => ⟨Or.inl rfl, by simp⟩⟩
  · have : i = 0 := Nat.le_zero.mp hi
    subst this
    refine ⟨by simp, fun n hm => ?_⟩
    have : n = t := by simpa using hm
    subst this
    refine ⟨by omega, ?_⟩
    show (if n < 2 then n + 1 else 0) = 2 * 0 + n + 1
    rw [if_pos ht]; omega
  · rw [List.nodup_iff_pairwise_ne, List.pairwise_map]
    refine List.nodup_range.imp_of_mem (fun {a b} ha hb hab => ?_)
    rw [List.mem_range] at ha hb
    omega
  · obtain ⟨j, hj, e⟩ := List.mem_map.mp hm
    rw [List.mem_range] at hj
    refine ⟨by omega, ?_⟩
    show (if n < 2 then n + 1 else 0) = 0
    rw [if_neg (by omega)]
  · show ((List.range 198).map (fun j => 199 - j)).length + _ + _ = 200
    rw [List.length_map, List.length_range]
    rfl
  · have : i = 0 := Nat.le_zero.mp hi
    subst this
    have : n = t := by simpa using hm
    subst this
    rw [if_pos rfl]; exact hl n ht
  · show ev_nk nx none [t]
    exact ⟨hn t ht, trivial⟩
  · show ev_pk pv none [t]
    rw [ev_pk_cons]
    exact ⟨hp t ht, by unfold ev_pk; trivial⟩
  · obtain ⟨h1, h2⟩ := ev_sl_get hm
    rw [h2]; exact hs j h1
section
variable {fb sp dp kp lg ls fd mn : Int32} {pc us it ln ks bl sz lf nx pv sr rt pa wy oa ov bg : Nat → Int32}
theorem ev_init232 {post : SX → Prop} (H : ∀ fb' ln' sp' dp' ks' bl' sz' lf' nx' pv' sr' rt' pa' wy', ev_FE (fun b => decide (b < 192)) fb' ln' sp' ks' bl' sz' lf' nx' pv' sr' rt' → post (fb', sp', dp', kp, lg, ls, fd, mn, pc, us, it, ln', ks', bl', sz', lf', nx', pv', sr', rt', pa', wy', oa, ov, bg)) :
    ∀ (d g : Nat) (fb : Int32) (ln : Nat → Int32) (sp dp : Int32) (ks bl sz lf nx pv sr rt pa wy : Nat → Int32), g + d = 3 → ev_FE (fun b => decide (b < 64 * g)) fb ln sp ks bl sz lf nx pv sr rt → wX_init_232 post (d + 1) (nI g) fb sp dp kp lg ls fd mn pc us it ln ks bl sz lf nx pv sr rt pa wy oa ov bg := by
  intro d
  induction d with
  | zero =>
    intro g fb ln sp dp ks bl sz lf nx pv sr rt pa wy hg E
    have : g = 3 := by omega
    subst this
    exact br_t (nI_le (a := 3) (Nat.le_refl _) (by omega)) (H fb ln sp dp ks bl sz lf nx pv sr rt pa wy E)
  | succ d ih =>
    intro g fb ln sp dp ks bl sz lf nx pv sr rt pa wy hg E
    refine br_f (nI_ge (b := 3) (by omega) (by omega)) ?_
    have e1 : (64 : Int32) * nI g = nI (64 * g) := pk_mul 64 g
    rw [e1]
    refine ev_release (b := 64 * g) (n := 64) E (by omega) (by omega) (by omega) (fun j hj => by simp) (fun fb' ln' sp' dp' ks' bl' sz' lf' nx' pv' sr' rt' pa' wy' E' => ?_)
    intro y ey
    rw [nI_1] at ey
    subst ey
    refine ih (g + 1) fb' ln' sp' dp' ks' bl' sz' lf' nx' pv' sr' rt' pa' wy' (by omega) (ev_FE_x E' (fun x hx => ?_))
    by_cases c : 64 * g ≤ x ∧ x < 64 * g + 64
    · rw [ev_fl_in c.1 c.2]
      exact decide_eq_true (by omega)
    · rw [ev_fl_out (by omega)]
      show decide (x < 64 * (g + 1)) = decide (x < 64 * g)
      by_cases q : x < 64 * g
      · rw [decide_eq_true q, decide_eq_true (by omega)]
      · rw [decide_eq_false q, decide_eq_false (by omega)]
theorem ev_init177 {post : SX → Prop} (H : ∀ sr', (∀ j, j < 200 → sr' j = nI (199 - j)) → ∃ n207, wX_init_207 post n207 0 fb (nI 200) dp kp lg ls fd mn pc us it ln ks bl sz lf nx pv sr' rt pa wy oa ov bg) :
    ∀ (m : Nat) (sr : Nat → Int32), m ≤ 200 → (∀ j, j < 200 - m → sr j = nI (199 - j)) → wX_init_177 post fb dp kp lg ls fd mn (m + 1) (ev_xm m) (nI (200 - m)) pc us it ln ks bl sz lf nx pv sr rt pa wy oa ov bg := by
  intro m
  induction m with
  | zero =>
    intro sr hm h
    exact br_t (show (-1 : Int32) < 0 by decide) (H sr (fun j hj => h j (by omega)))
  | succ m ih =>
    intro sr hm h
    refine br_f (nI_pos (n := m) (by omega)) (fun s es => ⟨vp_in_nI (by omega) (by omega), fun a ea y ey => ?_⟩)
    rw [nI_1, show 200 - (m + 1) + 1 = 200 - m from by omega] at es
    rw [nI_clamp (by omega)] at ea
    have ea' : a = upd sr (200 - (m + 1)) (nI m) := by rw [ea]; exact congrArg (upd sr _) (ev_nss (by omega))
    have ey' : y = ev_xm m := by rw [ey]; exact ev_xm_dec m
    subst es
    subst ey'
    refine ih a (by omega) (fun j hj => ?_)
    by_cases e : j = 200 - (m + 1)
    · rw [ea', e, pk_us, show 199 - (200 - (m + 1)) = m from by omega]
    · rw [ea', pk_un e]; exact h j (by omega)
theorem ev_init153 {post : SX → Prop} (H : ∀ pc', (∀ k, k < 512 → pc' k = -1) → (∀ k, 512 ≤ k → pc' k = 0) → ∃ n177, wX_init_177 post fb dp kp lg ls fd mn n177 199 sp pc' us it ln ks bl sz lf nx pv sr rt pa wy oa ov bg) :
    ∀ (d i : Nat) (pc : Nat → Int32), i + d = 512 → (∀ k, k < i → pc k = -1) → (∀ k, 512 ≤ k → pc k = 0) → wX_init_153 post fb sp dp kp lg ls fd mn (d + 1) (nI i) pc us it ln ks bl sz lf nx pv sr rt pa wy oa ov bg := by
  intro d
  induction d with
  | zero =>
    intro i pc hi h1 h2
    have : i = 512 := by omega
    subst this
    exact br_t (nI_le (a := 512) (Nat.le_refl _) (by omega)) (H pc h1 h2)
  | succ d ih =>
    intro i pc hi h1 h2
    refine br_f (nI_ge (b := 512) (by omega) (by omega)) ⟨vp_in_nI (by omega) (by omega), fun a ea y ey => ?_⟩
    rw [nI_1] at ey
    subst ey
    rw [nI_clamp (by omega), ev_nsm] at ea
    refine ih (i + 1) a (by omega) (fun k hk => ?_) (fun k hk => ?_)
    · by_cases e : k = i
      · rw [ea, e, pk_us]
      · rw [ea, pk_un e]; exact h1 k (by omega)
    · rw [ea, pk_un (by omega)]; exact h2 k hk
end
section
variable {yk yf yl : Int32} {ya yi ym yz : Nat → Int32}
theorem ev_initY42 {post : SY → Prop} (H : ∀ ya', (∀ k, k < 512 → ya' k = -1) → (∀ k, 512 ≤ k → ya' k = 0) → post (yk, yf, yl, ya', yi, ym, yz)) :
    ∀ (d i : Nat) (ya : Nat → Int32), i + d = 512 → (∀ k, k < i → ya k = -1) → (∀ k, 512 ≤ k → ya k = 0) → wY_init_42 post yk yf yl (d + 1) (nI i) ya yi ym yz := by
  intro d
  induction d with
  | zero =>
    intro i ya hi h1 h2
    have : i = 512 := by omega
    subst this
    exact br_t (nI_le (a := 512) (Nat.le_refl _) (by omega)) (H ya h1 h2)
  | succ d ih =>
    intro i ya hi h1 h2
    refine br_f (nI_ge (b := 512) (by omega) (by omega)) ⟨vp_in_nI (by omega) (by omega), fun a ea y ey => ?_⟩
    rw [nI_1] at ey
    subst ey
    rw [nI_clamp (by omega)] at ea
    refine ih (i + 1) a (by omega) (fun k hk => ?_) (fun k hk => ?_)
    · by_cases e : k = i
      · rw [ea, e, pk_us]
      · rw [ea, pk_un e]; exact h1 k (by omega)
    · rw [ea, pk_un (by omega)]; exact h2 k hk
end
theorem i_vc0 : wpX_init (fun u => wpY_init (fun v => i_Rel 0 u v)) := by
  refine Exists.intro 513 ?_
  refine ev_init153 (fun pc hp1 hp2 => Exists.intro 201 ?_) 512 0 (fun _ => 0) (by omega) (fun k hk => absurd hk (Nat.not_lt_zero _)) (fun _ _ => rfl)
  refine ev_init177 (fun sr hsr => Exists.intro 3 ?_) 200 (fun _ => 0) (by omega) (fun j hj => by omega)
  refine br_f (show ¬ (2 : Int32) ≤ 0 by decide) ?_
  refine ev_node (c := 199) (r := 0) (by omega) (by omega) (hsr 199 (by omega)) (Or.inr rfl) ?_
  refine And.intro (vp_in_nI (n := 0) (by omega) (by omega)) (fun r0 er0 y ey => ?_)
  have er0' : r0 = upd (fun _ => 0) 0 (nI 0) := by rw [er0, ev_nss (k := 0) (by omega)]; rfl
  have ey' : y = nI 1 := by rw [ey]; rfl
  subst ey'
  refine br_f (show ¬ (2 : Int32) ≤ nI 1 by decide) ?_
  refine ev_node (c := 198) (r := 1) (by omega) (by omega) (hsr 198 (by omega)) (Or.inr rfl) ?_
  refine And.intro (vp_in_nI (n := 1) (by omega) (by omega)) (fun r1 er1 y ey => ?_)
  have er1' : r1 = upd r0 1 (nI 1) := by rw [er1, ev_nss (k := 1) (by omega), nI_clamp (by omega)]
  have ey' : y = nI 2 := by rw [ey]; rfl
  subst ey'
  refine br_t (show (2 : Int32) ≤ nI 2 by decide) (Exists.intro 4 ?_)
  have two : ∀ t, t < 2 → t = 0 ∨ t = 1 := fun t ht => by omega
  have TI := ev_TI0 (ks := fun _ => 0) (bl := fun _ => 0) (sz := upd (upd (fun _ => 0) 0 (nI 0)) 1 (nI 0)) (lf := upd (upd (fun _ => 0) 0 1) 1 1) (nx := upd (upd (fun _ => 0) 0 (-1)) 1 (-1)) (pv := upd (upd (fun _ => 0) 0 (-1)) 1 (-1)) (sr := sr) (rt := r1)
    (fun n _ => by
      by_cases c : n = 1
      · rw [c, pk_us]
      · rw [pk_un c]
        by_cases c2 : n = 0
        · rw [c2, pk_us]
        · rw [pk_un c2]; rfl)
    (fun t ht => by rcases two t ht with e | e <;> subst e <;> rfl)
    (fun t ht => by rcases two t ht with e | e <;> subst e <;> rfl)
    (fun t ht => by rcases two t ht with e | e <;> subst e <;> rfl)
    (fun j hj => hsr j (by omega))
    (fun t ht => by rw [er1', er0']; rcases two t ht with e | e <;> subst e <;> rfl)
  have FE : ev_FE (fun b => decide (b < 64 * 0)) 0 (fun _ => 0) (nI 198) (fun _ => 0) (fun _ => 0) (upd (upd (fun _ => 0) 0 (nI 0)) 1 (nI 0)) (upd (upd (fun _ => 0) 0 1) 1 1) (upd (upd (fun _ => 0) 0 (-1)) 1 (-1)) (upd (upd (fun _ => 0) 0 (-1)) 1 (-1)) sr r1 := by
    have nos : ∀ s, ¬ ev_st (fun b => decide (b < 64 * 0)) s := fun s h => by
      have := h.2.1
      simp at this
    refine ⟨fun _ => [], ⟨fun s => ⟨fun h => by simp at h, fun h => absurd h (nos s)⟩, fun x => ⟨fun h => by simp at h, fun ⟨s, h, _⟩ => absurd h (nos s)⟩, rfl, fun s h => absurd h (nos s)⟩, TI, ?_⟩
    have z : ∀ n, ev_cn (fun b => decide (b < 64 * 0)) n = 0 := by
      intro n
      induction n with
      | zero => rfl
      | succ n ih =>
        show ev_cn _ n + (if decide (n < 64 * 0) = true then 1 else 0) = 0
        rw [ih, if_neg (by simp)]
    rw [z]; rfl
  refine ev_init232 (fun fb ln sp dp ks bl sz lf nx pv sr' rt pa wy E => ?_) 3 0 0 (fun _ => 0) (nI 198) 0 (fun _ => 0) (fun _ => 0) _ _ _ _ sr r1 (fun _ => 0) (fun _ => 0) (by omega) FE
  refine Exists.intro 513 ?_
  refine ev_initY42 (fun ya ha1 ha2 => ?_) 512 0 (fun _ => 0) (by omega) (fun k hk => absurd hk (Nat.not_lt_zero _)) (fun _ _ => rfl)
  have eya : ya = pc := by
    funext k
    by_cases c : k < 512
    · rw [ha1 k c, hp1 k c]
    · rw [ha2 k (by omega), hp2 k (by omega)]
  have gd : ev_gd pc := by
    refine ⟨fun k hk => ⟨none, hp1 k hk, fun b e => by simp at e⟩, fun k k' b hk hk' hb e1 e2 => ?_, hp2⟩
    rw [hp1 k hk] at e1
    exact absurd e1 (ev_m1_ne (by omega))
  have cu0 : ∀ b, b < 192 → ev_cu pc b 512 = 0 := fun b hb => ev_cu0.mpr (fun k hk e => by
    rw [hp1 k hk] at e
    exact ev_m1_ne (by omega) e)
  refine ⟨0, 0, fun _ => 0, fun _ => pc, fun _ => (fun _ => 0), rfl, rfl, rfl, rfl, eya, rfl, by omega, ⟨gd, fun b hb => ?_, ev_FE_x E (fun x hx => ?_)⟩, ⟨rfl, rfl, fun i hi => absurd hi (Nat.not_lt_zero _)⟩, ⟨fun j hj => absurd hj (Nat.not_lt_zero _), fun j hj => gd⟩, rfl, rfl, fun i hi => absurd hi (Nat.not_lt_zero _), fun i hi => absurd hi (Nat.not_lt_zero _)⟩
  · rw [cu0 b hb]; rfl
  · rw [ev_Fo_t.mpr (cu0 x hx)]
    exact (decide_eq_true hx).symm
end
