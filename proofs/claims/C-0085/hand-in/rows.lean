section
/-! pure rows to paste: stores, nI and lN arithmetic, masks, shifts, narrowing, branches by naturals (pk_le, pk_lt, pk_eq), loops (lp1 .. lp16: the measure of the state; rp1 ..: recursion), negatives. Take what you need -/
theorem pk_us {f : Nat → Int32} {k : Nat} {x : Int32} : upd f k x k = x := if_pos rfl
theorem pk_un {f : Nat → Int32} {k j : Nat} {x : Int32} (h : j ≠ k) : upd f k x j = f j := if_neg h
theorem pk_uLs {f : Nat → Int64} {k : Nat} {x : Int64} : vp_updL f k x k = x := if_pos rfl
theorem pk_uLn {f : Nat → Int64} {k j : Nat} {x : Int64} (h : j ≠ k) : vp_updL f k x j = f j := if_neg h
theorem pk_sub {a b : Nat} (h : b ≤ a) : nI a - nI b = nI (a - b) := by
  obtain ⟨c, rfl⟩ : ∃ c, a = c + b := ⟨a - b, by omega⟩
  rw [← nI_add, Int32.add_sub_cancel, Nat.add_sub_cancel]
theorem pk_m1 (n : Nat) : nI (n + 1) + (-1) = nI n := by
  rw [← nI_1, Int32.add_assoc, show (1 : Int32) + (-1) = 0 from rfl, Int32.add_zero]
theorem pk_mul (a b : Nat) : nI a * nI b = nI (a * b) := (Int32.ofNat_mul a b).symm
theorem pk_div {a d : Nat} (ha : a < 2 ^ 31) (h0 : 0 < d) (hd : d < 2 ^ 31) : nI a / nI d = nI (a / d) := by
  apply Int32.toInt_inj.mp
  rw [lg_idiv_nonneg (by rw [nI_toInt ha]; omega) (by rw [nI_toInt hd]; omega), nI_toInt ha, nI_toInt hd, nI_toInt (Nat.lt_of_le_of_lt (Nat.div_le_self a d) ha)]
  first | rfl | exact (Int.natCast_ediv _ _).symm
theorem pk_rem {a d : Nat} (ha : a < 2 ^ 31) (h0 : 0 < d) (hd : d < 2 ^ 31) : nI a - nI a / nI d * nI d = nI (a % d) := by
  rw [pk_div ha h0 hd, pk_mul, pk_sub (Nat.div_mul_le_self a d)]
  exact congrArg nI (by have := Nat.div_add_mod' a d; omega)
theorem pk_sub_toInt {a b : Nat} (ha : a < 2 ^ 30) (hb : b < 2 ^ 30) : (nI a - nI b).toInt = (a : Int) - b := by
  rw [Int32.toInt_sub, nI_toInt (by omega), nI_toInt (by omega)]
  exact Int.bmod_eq_of_le (by omega) (by omega)
theorem pk_sneg {a b : Nat} (hb : b < 2 ^ 30) (h : a < b) : nI a - nI b < 0 := by
  rw [Int32.lt_iff_toInt_lt, pk_sub_toInt (by omega) hb, show (0 : Int32).toInt = 0 from by decide]
  omega
theorem pk_ix (x : Int32) {n : Nat} (hn : n < 2 ^ 31) : x < 0 ∨ nI n ≤ x ∨ ∃ j : Nat, j < n ∧ x = nI j := by
  by_cases h : x < 0
  · exact Or.inl h
  · obtain ⟨j, hj, rfl⟩ := nI_of h
    by_cases h2 : j < n
    · exact Or.inr (Or.inr ⟨j, h2, rfl⟩)
    · exact Or.inr (Or.inl (nI_le (by omega) hj))
theorem pk_le {x y : Int32} {A B : Prop} (a b : Nat) (f : a ≤ b → A) (g : b < a → B) (hx : x = nI a := by rfl) (hy : y = nI b := by rfl) (ha : a < 2 ^ 31 := by omega) (hb : b < 2 ^ 31 := by omega) : (x ≤ y → A) ∧ (¬ x ≤ y → B) := by
  subst hx hy
  rw [nI_leI ha hb]
  exact ⟨f, fun z => g (by omega)⟩
theorem pk_lt {x y : Int32} {A B : Prop} (a b : Nat) (f : a < b → A) (g : b ≤ a → B) (hx : x = nI a := by rfl) (hy : y = nI b := by rfl) (ha : a < 2 ^ 31 := by omega) (hb : b < 2 ^ 31 := by omega) : (x < y → A) ∧ (¬ x < y → B) := by
  subst hx hy
  rw [nI_ltI ha hb]
  exact ⟨f, fun z => g (by omega)⟩
theorem pk_eq {x y : Int32} {A B : Prop} (a b : Nat) (f : a = b → A) (g : a ≠ b → B) (hx : x = nI a := by rfl) (hy : y = nI b := by rfl) (ha : a < 2 ^ 31 := by omega) (hb : b < 2 ^ 31 := by omega) : (x = y → A) ∧ (¬ x = y → B) := by
  subst hx hy
  rw [nI_eq ha hb]
  exact ⟨f, g⟩
theorem pk_in {x : Int32} (n N : Nat) (h : n < N) (hx : x = nI n := by rfl) (hN : N < 2 ^ 31 := by omega) : vp_in x N := by
  subst hx
  exact vp_in_nI h hN
theorem pk_cl {x : Int32} (n : Nat) (hx : x = nI n := by rfl) (h : n < 2 ^ 31 := by omega) : x.toNatClampNeg = n := by
  subst hx
  exact nI_clamp h
theorem pk_tn {n : Nat} (h : n < 2 ^ 32) : (nI n).toBitVec.toNat = n := Nat.mod_eq_of_lt h
theorem pk_and (x : Int32) {m : Int32} (k : Nat) (hm : m.toBitVec.toNat = 2 ^ k - 1) : x &&& m = nI (x.toBitVec.toNat % 2 ^ k) := by
  apply Int32.toBitVec_inj.mp
  apply BitVec.eq_of_toNat_eq
  rw [Int32.toBitVec_and, BitVec.toNat_and, hm, Nat.and_two_pow_sub_one_eq_mod]
  show _ = (BitVec.ofNat 32 _).toNat
  rw [BitVec.toNat_ofNat]
  exact (Nat.mod_eq_of_lt (Nat.lt_of_le_of_lt (Nat.mod_le _ _) x.toBitVec.isLt)).symm
theorem pk_andN {n : Nat} (h : n < 2 ^ 32) {m : Int32} (k : Nat) (hm : m.toBitVec.toNat = 2 ^ k - 1) : nI n &&& m = nI (n % 2 ^ k) := by
  rw [pk_and _ k hm, pk_tn h]
theorem pk_andE (x : Int32) {m : Int32} (k : Nat) (hm : m.toBitVec.toNat = 2 ^ k - 1) : ∃ j : Nat, j < 2 ^ k ∧ x &&& m = nI j := ⟨_, Nat.mod_lt _ (Nat.two_pow_pos k), pk_and x k hm⟩
theorem pk_andIn (x : Int32) {m : Int32} (k : Nat) (hm : m.toBitVec.toNat = 2 ^ k - 1) (hk : k ≤ 30) : vp_in (x &&& m) (2 ^ k) := by
  obtain ⟨j, hj, e⟩ := pk_andE x k hm
  rw [e]
  exact vp_in_nI hj (Nat.lt_of_le_of_lt (Nat.pow_le_pow_right (by decide) hk) (by decide))
theorem pk_shl (a s : Int32) (k : Nat) (hs : (s.toBitVec.smod 32).toNat = k) : (a <<< s).toBitVec.toNat = a.toBitVec.toNat * 2 ^ k % 2 ^ 32 := by
  show (a.toBitVec <<< (s.toBitVec.smod 32).toNat).toNat = _
  rw [hs, BitVec.toNat_shiftLeft, Nat.shiftLeft_eq]
theorem pk_shlN {n : Nat} (s : Int32) (k : Nat) (hs : (s.toBitVec.smod 32).toNat = k) (h : n * 2 ^ k < 2 ^ 32) : nI n <<< s = nI (n * 2 ^ k) := by
  apply Int32.toBitVec_inj.mp
  apply BitVec.eq_of_toNat_eq
  have hn : n < 2 ^ 32 := Nat.lt_of_le_of_lt (Nat.le_mul_of_pos_right n (Nat.two_pow_pos k)) h
  rw [pk_shl _ _ k hs, pk_tn hn, pk_tn h, Nat.mod_eq_of_lt h]
theorem pk_shr (a s : Int32) (k : Nat) (hs : (s.toBitVec.smod 32).toNat = k) : (a >>> s).toInt = a.toInt >>> k := by
  show (a.toBitVec.sshiftRight (s.toBitVec.smod 32).toNat).toInt = _
  rw [hs, BitVec.toInt_sshiftRight]
  rfl
theorem pk_shrN {n : Nat} (h : n < 2 ^ 31) (s : Int32) (k : Nat) (hs : (s.toBitVec.smod 32).toNat = k) : nI n >>> s = nI (n / 2 ^ k) := by
  apply Int32.toInt_inj.mp
  have h2 : n / 2 ^ k ≤ n := Nat.div_le_self _ _
  rw [pk_shr _ _ k hs, nI_toInt h, nI_toInt (by omega), Int.shiftRight_eq_div_pow]
  rfl
theorem pk_ushr (x s : Int32) (k : Nat) (hs : ((s.toUInt32 &&& Int32.toUInt32 31).toBitVec % 32).toNat = k) : (x.toUInt32 >>> (s.toUInt32 &&& Int32.toUInt32 31)).toInt32.toBitVec.toNat = x.toBitVec.toNat / 2 ^ k := by
  have e : (x.toUInt32 >>> (s.toUInt32 &&& Int32.toUInt32 31)).toInt32.toBitVec = x.toBitVec >>> k := by
    rw [← hs]
    exact UInt32.toBitVec_shiftRight _ _
  rw [e, BitVec.toNat_ushiftRight, Nat.shiftRight_eq_div_pow]
theorem pk_ushrN {n : Nat} (hn : n < 2 ^ 32) (s : Int32) (k : Nat) (hs : ((s.toUInt32 &&& Int32.toUInt32 31).toBitVec % 32).toNat = k) : ((nI n).toUInt32 >>> (s.toUInt32 &&& Int32.toUInt32 31)).toInt32 = nI (n / 2 ^ k) := by
  apply Int32.toBitVec_inj.mp
  apply BitVec.eq_of_toNat_eq
  rw [pk_ushr _ s k hs, pk_tn hn, pk_tn (Nat.lt_of_le_of_lt (Nat.div_le_self _ _) hn)]
theorem pk_nb (z : Int32) : narrow .byte (.int z.toInt8.toInt32) = .int z.toInt8.toInt32 := congrArg Value.int (by simp)
theorem pk_ns (z : Int32) : narrow .short (.int z.toInt16.toInt32) = .int z.toInt16.toInt32 := congrArg Value.int (by simp)
theorem pk_fb (r : Int32) : fits .byte (.int r.toInt8.toInt32) = true := by
  have ⟨a, b⟩ := lg_i2b_range r
  have h1 : (-128 : Int32).toInt = -128 := by decide
  have h2 : (127 : Int32).toInt = 127 := by decide
  simp only [fits, Bool.and_eq_true, decide_eq_true_eq, Int32.le_iff_toInt_le, h1, h2]
  omega
theorem pk_fs (r : Int32) : fits .short (.int r.toInt16.toInt32) = true := by
  have ⟨a, b⟩ := lg_i2s_range r
  have h1 : (-32768 : Int32).toInt = -32768 := by decide
  have h2 : (32767 : Int32).toInt = 32767 := by decide
  simp only [fits, Bool.and_eq_true, decide_eq_true_eq, Int32.le_iff_toInt_le, h1, h2]
  omega
theorem pk_charN {q : Nat} (hq : q < 65536) : narrow .char (.int (nI q)) = .int (nI q) ∧ fits .char (.int (nI q)) = true := by
  constructor
  · have e : (nI q).toUInt32.toUInt16.toUInt32.toInt32 = nI q := by
      apply Int32.toBitVec_inj.mp
      apply BitVec.eq_of_toNat_eq
      show (nI q).toUInt32.toUInt16.toUInt32.toNat = q % 2 ^ 32
      rw [UInt16.toNat_toUInt32, UInt32.toNat_toUInt16, show (nI q).toUInt32.toNat = q % 2 ^ 32 from rfl]
      omega
    exact congrArg Value.int e
  · have a : (0 : Int32) ≤ nI q := nI_pos' (by omega)
    have b : nI q ≤ 65535 := nI_le (b := 65535) (by omega) (by decide)
    show (decide ((0 : Int32) ≤ nI q) && decide (nI q ≤ 65535)) = true
    rw [decide_eq_true a, decide_eq_true b]
    rfl
theorem pk_char (x : Int32) : (x.toUInt32 % 65536).toInt32 = nI (x.toBitVec.toNat % 65536) := by
  apply Int32.toBitVec_inj.mp
  apply BitVec.eq_of_toNat_eq
  rw [pk_tn (by omega)]
  show (x.toUInt32 % 65536).toNat = _
  rw [UInt32.toNat_mod]
  rfl
theorem pk_nc (x : Int32) : narrow .char (.int (x.toUInt32 % 65536).toInt32) = .int (x.toUInt32 % 65536).toInt32 := by
  rw [pk_char]
  exact (pk_charN (Nat.mod_lt _ (by decide))).1
theorem pk_fc (x : Int32) : fits .char (.int (x.toUInt32 % 65536).toInt32) = true := by
  rw [pk_char]
  exact (pk_charN (Nat.mod_lt _ (by decide))).2
theorem pk_vb (z : Int32) : vp_nar .byte z.toInt8.toInt32 = z.toInt8.toInt32 := by rw [vp_nar_byte]; simp
theorem pk_vs (z : Int32) : vp_nar .short z.toInt16.toInt32 = z.toInt16.toInt32 := by rw [vp_nar_short]; simp
theorem pk_vc (z : Int32) : vp_nar .char (z.toUInt32 % 65536).toInt32 = (z.toUInt32 % 65536).toInt32 := Value.int.inj (pk_nc z)
theorem pk_lT {n : Nat} (h : n < 2 ^ 63) : (lN n).toInt = (n : Int) := lg_ofNat_toInt h
theorem pk_lLT {a b : Nat} (ha : a < 2 ^ 63) (hb : b < 2 ^ 63) : lN a < lN b ↔ a < b := by
  rw [Int64.lt_iff_toInt_lt, pk_lT ha, pk_lT hb]; omega
theorem pk_lLE {a b : Nat} (ha : a < 2 ^ 63) (hb : b < 2 ^ 63) : lN a ≤ lN b ↔ a ≤ b := by
  rw [Int64.le_iff_toInt_le, pk_lT ha, pk_lT hb]; omega
theorem pk_lEQ {a b : Nat} (ha : a < 2 ^ 63) (hb : b < 2 ^ 63) : lN a = lN b ↔ a = b := by
  rw [← Int64.toInt_inj, pk_lT ha, pk_lT hb]; omega
theorem pk_lOf {x : Int64} (h : ¬ x < 0) : ∃ k : Nat, k < 2 ^ 63 ∧ x = lN k := by
  rw [Int64.lt_iff_toInt_lt] at h
  have h0 : (0 : Int64).toInt = 0 := by decide
  have hx := Int64.toInt_lt x
  refine ⟨x.toInt.toNat, by omega, Int64.toInt_inj.mp ?_⟩
  rw [pk_lT (by omega)]
  omega
theorem pk_lDiv {a b : Nat} (ha : a < 2 ^ 63) (h0 : 0 < b) (hb : b < 2 ^ 63) : lN a / lN b = lN (a / b) := by
  apply Int64.toInt_inj.mp
  rw [lg_ldiv_nonneg (by rw [pk_lT ha]; omega) (by rw [pk_lT hb]; omega), pk_lT ha, pk_lT hb, pk_lT (Nat.lt_of_le_of_lt (Nat.div_le_self a b) ha)]
  rfl
theorem pk_lRem {a b : Nat} (ha : a < 2 ^ 63) (h0 : 0 < b) (hb : b < 2 ^ 63) : lN a - lN a / lN b * lN b = lN (a % b) := by
  rw [pk_lDiv ha h0 hb, lN_mul, lN_sub (Nat.div_mul_le_self a b)]
  exact congrArg lN (by have := Nat.div_add_mod' a b; omega)
theorem pk_loop {σ : Type} (W : Nat → Nat → σ → Prop) (I : Nat → σ → Prop) (e i0 : Nat) (s : σ) (hi : i0 ≤ e) (h0 : I i0 s) (hx : ∀ n s, I e s → W (n + 1) e s)
    (hs : ∀ n i s, i < e → I i s → (∀ s', I (i + 1) s' → W n (i + 1) s') → W (n + 1) i s) : ∃ n, W n i0 s :=
  ⟨e + 1, loop_i W I e hx hs (e + 1) i0 s hi (by omega) h0⟩
theorem pk_loopD {σ : Type} (W : Nat → Nat → σ → Prop) (I : Nat → σ → Prop) (hx : ∀ n s, I 0 s → W (n + 1) 0 s)
    (hs : ∀ n i s, I (i + 1) s → (∀ s', I i s' → W n i s') → W (n + 1) (i + 1) s) : ∀ (e : Nat) (s : σ), I e s → W (e + 1) e s := by
  intro e
  induction e with
  | zero => exact fun s h => hx 0 s h
  | succ e ih => exact fun s h => hs (e + 1) e s h (fun s' h' => ih s' h')
theorem lp1 {A1 : Type} (W : Nat → A1 → Prop) (I : A1 → Prop) (μ : A1 → Nat) (hs : ∀ (n : Nat) (a1 : A1), I a1 → (∀ (b1 : A1), I b1 → μ b1 < μ a1 → W n b1) → W (n + 1) a1) (a1 : A1) (h : I a1) : ∃ n, W n a1 :=
  loop_m (σ := A1) (fun n s => W n s) (fun s => I s) (fun s => μ s) (fun n s hI hk => hs n s hI (fun b1 h9 hm => hk b1 h9 hm)) a1 h
theorem lp2 {A1 A2 : Type} (W : Nat → A1 → A2 → Prop) (I : A1 → A2 → Prop) (μ : A1 → A2 → Nat) (hs : ∀ (n : Nat) (a1 : A1) (a2 : A2), I a1 a2 → (∀ (b1 : A1) (b2 : A2), I b1 b2 → μ b1 b2 < μ a1 a2 → W n b1 b2) → W (n + 1) a1 a2) (a1 : A1) (a2 : A2) (h : I a1 a2) : ∃ n, W n a1 a2 :=
  loop_m (σ := A1 × A2) (fun n s => W n s.1 s.2) (fun s => I s.1 s.2) (fun s => μ s.1 s.2) (fun n s hI hk => hs n s.1 s.2 hI (fun b1 b2 h9 hm => hk (b1, b2) h9 hm)) (a1, a2) h
theorem lp3 {A1 A2 A3 : Type} (W : Nat → A1 → A2 → A3 → Prop) (I : A1 → A2 → A3 → Prop) (μ : A1 → A2 → A3 → Nat) (hs : ∀ (n : Nat) (a1 : A1) (a2 : A2) (a3 : A3), I a1 a2 a3 → (∀ (b1 : A1) (b2 : A2) (b3 : A3), I b1 b2 b3 → μ b1 b2 b3 < μ a1 a2 a3 → W n b1 b2 b3) → W (n + 1) a1 a2 a3) (a1 : A1) (a2 : A2) (a3 : A3) (h : I a1 a2 a3) : ∃ n, W n a1 a2 a3 :=
  loop_m (σ := A1 × A2 × A3) (fun n s => W n s.1 s.2.1 s.2.2) (fun s => I s.1 s.2.1 s.2.2) (fun s => μ s.1 s.2.1 s.2.2) (fun n s hI hk => hs n s.1 s.2.1 s.2.2 hI (fun b1 b2 b3 h9 hm => hk (b1, b2, b3) h9 hm)) (a1, a2, a3) h
theorem lp4 {A1 A2 A3 A4 : Type} (W : Nat → A1 → A2 → A3 → A4 → Prop) (I : A1 → A2 → A3 → A4 → Prop) (μ : A1 → A2 → A3 → A4 → Nat) (hs : ∀ (n : Nat) (a1 : A1) (a2 : A2) (a3 : A3) (a4 : A4), I a1 a2 a3 a4 → (∀ (b1 : A1) (b2 : A2) (b3 : A3) (b4 : A4), I b1 b2 b3 b4 → μ b1 b2 b3 b4 < μ a1 a2 a3 a4 → W n b1 b2 b3 b4) → W (n + 1) a1 a2 a3 a4) (a1 : A1) (a2 : A2) (a3 : A3) (a4 : A4) (h : I a1 a2 a3 a4) : ∃ n, W n a1 a2 a3 a4 :=
  loop_m (σ := A1 × A2 × A3 × A4) (fun n s => W n s.1 s.2.1 s.2.2.1 s.2.2.2) (fun s => I s.1 s.2.1 s.2.2.1 s.2.2.2) (fun s => μ s.1 s.2.1 s.2.2.1 s.2.2.2) (fun n s hI hk => hs n s.1 s.2.1 s.2.2.1 s.2.2.2 hI (fun b1 b2 b3 b4 h9 hm => hk (b1, b2, b3, b4) h9 hm)) (a1, a2, a3, a4) h
theorem lp5 {A1 A2 A3 A4 A5 : Type} (W : Nat → A1 → A2 → A3 → A4 → A5 → Prop) (I : A1 → A2 → A3 → A4 → A5 → Prop) (μ : A1 → A2 → A3 → A4 → A5 → Nat) (hs : ∀ (n : Nat) (a1 : A1) (a2 : A2) (a3 : A3) (a4 : A4) (a5 : A5), I a1 a2 a3 a4 a5 → (∀ (b1 : A1) (b2 : A2) (b3 : A3) (b4 : A4) (b5 : A5), I b1 b2 b3 b4 b5 → μ b1 b2 b3 b4 b5 < μ a1 a2 a3 a4 a5 → W n b1 b2 b3 b4 b5) → W (n + 1) a1 a2 a3 a4 a5) (a1 : A1) (a2 : A2) (a3 : A3) (a4 : A4) (a5 : A5) (h : I a1 a2 a3 a4 a5) : ∃ n, W n a1 a2 a3 a4 a5 :=
  loop_m (σ := A1 × A2 × A3 × A4 × A5) (fun n s => W n s.1 s.2.1 s.2.2.1 s.2.2.2.1 s.2.2.2.2) (fun s => I s.1 s.2.1 s.2.2.1 s.2.2.2.1 s.2.2.2.2) (fun s => μ s.1 s.2.1 s.2.2.1 s.2.2.2.1 s.2.2.2.2) (fun n s hI hk => hs n s.1 s.2.1 s.2.2.1 s.2.2.2.1 s.2.2.2.2 hI (fun b1 b2 b3 b4 b5 h9 hm => hk (b1, b2, b3, b4, b5) h9 hm)) (a1, a2, a3, a4, a5) h
theorem lp6 {A1 A2 A3 A4 A5 A6 : Type} (W : Nat → A1 → A2 → A3 → A4 → A5 → A6 → Prop) (I : A1 → A2 → A3 → A4 → A5 → A6 → Prop) (μ : A1 → A2 → A3 → A4 → A5 → A6 → Nat) (hs : ∀ (n : Nat) (a1 : A1) (a2 : A2) (a3 : A3) (a4 : A4) (a5 : A5) (a6 : A6), I a1 a2 a3 a4 a5 a6 → (∀ (b1 : A1) (b2 : A2) (b3 : A3) (b4 : A4) (b5 : A5) (b6 : A6), I b1 b2 b3 b4 b5 b6 → μ b1 b2 b3 b4 b5 b6 < μ a1 a2 a3 a4 a5 a6 → W n b1 b2 b3 b4 b5 b6) → W (n + 1) a1 a2 a3 a4 a5 a6) (a1 : A1) (a2 : A2) (a3 : A3) (a4 : A4) (a5 : A5) (a6 : A6) (h : I a1 a2 a3 a4 a5 a6) : ∃ n, W n a1 a2 a3 a4 a5 a6 :=
  loop_m (σ := A1 × A2 × A3 × A4 × A5 × A6) (fun n s => W n s.1 s.2.1 s.2.2.1 s.2.2.2.1 s.2.2.2.2.1 s.2.2.2.2.2) (fun s => I s.1 s.2.1 s.2.2.1 s.2.2.2.1 s.2.2.2.2.1 s.2.2.2.2.2) (fun s => μ s.1 s.2.1 s.2.2.1 s.2.2.2.1 s.2.2.2.2.1 s.2.2.2.2.2) (fun n s hI hk => hs n s.1 s.2.1 s.2.2.1 s.2.2.2.1 s.2.2.2.2.1 s.2.2.2.2.2 hI (fun b1 b2 b3 b4 b5 b6 h9 hm => hk (b1, b2, b3, b4, b5, b6) h9 hm)) (a1, a2, a3, a4, a5, a6) h
theorem lp7 {A1 A2 A3 A4 A5 A6 A7 : Type} (W : Nat → A1 → A2 → A3 → A4 → A5 → A6 → A7 → Prop) (I : A1 → A2 → A3 → A4 → A5 → A6 → A7 → Prop) (μ : A1 → A2 → A3 → A4 → A5 → A6 → A7 → Nat) (hs : ∀ (n : Nat) (a1 : A1) (a2 : A2) (a3 : A3) (a4 : A4) (a5 : A5) (a6 : A6) (a7 : A7), I a1 a2 a3 a4 a5 a6 a7 → (∀ (b1 : A1) (b2 : A2) (b3 : A3) (b4 : A4) (b5 : A5) (b6 : A6) (b7 : A7), I b1 b2 b3 b4 b5 b6 b7 → μ b1 b2 b3 b4 b5 b6 b7 < μ a1 a2 a3 a4 a5 a6 a7 → W n b1 b2 b3 b4 b5 b6 b7) → W (n + 1) a1 a2 a3 a4 a5 a6 a7) (a1 : A1) (a2 : A2) (a3 : A3) (a4 : A4) (a5 : A5) (a6 : A6) (a7 : A7) (h : I a1 a2 a3 a4 a5 a6 a7) : ∃ n, W n a1 a2 a3 a4 a5 a6 a7 :=
  loop_m (σ := A1 × A2 × A3 × A4 × A5 × A6 × A7) (fun n s => W n s.1 s.2.1 s.2.2.1 s.2.2.2.1 s.2.2.2.2.1 s.2.2.2.2.2.1 s.2.2.2.2.2.2) (fun s => I s.1 s.2.1 s.2.2.1 s.2.2.2.1 s.2.2.2.2.1 s.2.2.2.2.2.1 s.2.2.2.2.2.2) (fun s => μ s.1 s.2.1 s.2.2.1 s.2.2.2.1 s.2.2.2.2.1 s.2.2.2.2.2.1 s.2.2.2.2.2.2) (fun n s hI hk => hs n s.1 s.2.1 s.2.2.1 s.2.2.2.1 s.2.2.2.2.1 s.2.2.2.2.2.1 s.2.2.2.2.2.2 hI (fun b1 b2 b3 b4 b5 b6 b7 h9 hm => hk (b1, b2, b3, b4, b5, b6, b7) h9 hm)) (a1, a2, a3, a4, a5, a6, a7) h
theorem lp8 {A1 A2 A3 A4 A5 A6 A7 A8 : Type} (W : Nat → A1 → A2 → A3 → A4 → A5 → A6 → A7 → A8 → Prop) (I : A1 → A2 → A3 → A4 → A5 → A6 → A7 → A8 → Prop) (μ : A1 → A2 → A3 → A4 → A5 → A6 → A7 → A8 → Nat) (hs : ∀ (n : Nat) (a1 : A1) (a2 : A2) (a3 : A3) (a4 : A4) (a5 : A5) (a6 : A6) (a7 : A7) (a8 : A8), I a1 a2 a3 a4 a5 a6 a7 a8 → (∀ (b1 : A1) (b2 : A2) (b3 : A3) (b4 : A4) (b5 : A5) (b6 : A6) (b7 : A7) (b8 : A8), I b1 b2 b3 b4 b5 b6 b7 b8 → μ b1 b2 b3 b4 b5 b6 b7 b8 < μ a1 a2 a3 a4 a5 a6 a7 a8 → W n b1 b2 b3 b4 b5 b6 b7 b8) → W (n + 1) a1 a2 a3 a4 a5 a6 a7 a8) (a1 : A1) (a2 : A2) (a3 : A3) (a4 : A4) (a5 : A5) (a6 : A6) (a7 : A7) (a8 : A8) (h : I a1 a2 a3 a4 a5 a6 a7 a8) : ∃ n, W n a1 a2 a3 a4 a5 a6 a7 a8 :=
  loop_m (σ := A1 × A2 × A3 × A4 × A5 × A6 × A7 × A8) (fun n s => W n s.1 s.2.1 s.2.2.1 s.2.2.2.1 s.2.2.2.2.1 s.2.2.2.2.2.1 s.2.2.2.2.2.2.1 s.2.2.2.2.2.2.2) (fun s => I s.1 s.2.1 s.2.2.1 s.2.2.2.1 s.2.2.2.2.1 s.2.2.2.2.2.1 s.2.2.2.2.2.2.1 s.2.2.2.2.2.2.2) (fun s => μ s.1 s.2.1 s.2.2.1 s.2.2.2.1 s.2.2.2.2.1 s.2.2.2.2.2.1 s.2.2.2.2.2.2.1 s.2.2.2.2.2.2.2) (fun n s hI hk => hs n s.1 s.2.1 s.2.2.1 s.2.2.2.1 s.2.2.2.2.1 s.2.2.2.2.2.1 s.2.2.2.2.2.2.1 s.2.2.2.2.2.2.2 hI (fun b1 b2 b3 b4 b5 b6 b7 b8 h9 hm => hk (b1, b2, b3, b4, b5, b6, b7, b8) h9 hm)) (a1, a2, a3, a4, a5, a6, a7, a8) h
theorem lp9 {A1 A2 A3 A4 A5 A6 A7 A8 A9 : Type} (W : Nat → A1 → A2 → A3 → A4 → A5 → A6 → A7 → A8 → A9 → Prop) (I : A1 → A2 → A3 → A4 → A5 → A6 → A7 → A8 → A9 → Prop) (μ : A1 → A2 → A3 → A4 → A5 → A6 → A7 → A8 → A9 → Nat) (hs : ∀ (n : Nat) (a1 : A1) (a2 : A2) (a3 : A3) (a4 : A4) (a5 : A5) (a6 : A6) (a7 : A7) (a8 : A8) (a9 : A9), I a1 a2 a3 a4 a5 a6 a7 a8 a9 → (∀ (b1 : A1) (b2 : A2) (b3 : A3) (b4 : A4) (b5 : A5) (b6 : A6) (b7 : A7) (b8 : A8) (b9 : A9), I b1 b2 b3 b4 b5 b6 b7 b8 b9 → μ b1 b2 b3 b4 b5 b6 b7 b8 b9 < μ a1 a2 a3 a4 a5 a6 a7 a8 a9 → W n b1 b2 b3 b4 b5 b6 b7 b8 b9) → W (n + 1) a1 a2 a3 a4 a5 a6 a7 a8 a9) (a1 : A1) (a2 : A2) (a3 : A3) (a4 : A4) (a5 : A5) (a6 : A6) (a7 : A7) (a8 : A8) (a9 : A9) (h : I a1 a2 a3 a4 a5 a6 a7 a8 a9) : ∃ n, W n a1 a2 a3 a4 a5 a6 a7 a8 a9 :=
  loop_m (σ := A1 × A2 × A3 × A4 × A5 × A6 × A7 × A8 × A9) (fun n s => W n s.1 s.2.1 s.2.2.1 s.2.2.2.1 s.2.2.2.2.1 s.2.2.2.2.2.1 s.2.2.2.2.2.2.1 s.2.2.2.2.2.2.2.1 s.2.2.2.2.2.2.2.2) (fun s => I s.1 s.2.1 s.2.2.1 s.2.2.2.1 s.2.2.2.2.1 s.2.2.2.2.2.1 s.2.2.2.2.2.2.1 s.2.2.2.2.2.2.2.1 s.2.2.2.2.2.2.2.2) (fun s => μ s.1 s.2.1 s.2.2.1 s.2.2.2.1 s.2.2.2.2.1 s.2.2.2.2.2.1 s.2.2.2.2.2.2.1 s.2.2.2.2.2.2.2.1 s.2.2.2.2.2.2.2.2) (fun n s hI hk => hs n s.1 s.2.1 s.2.2.1 s.2.2.2.1 s.2.2.2.2.1 s.2.2.2.2.2.1 s.2.2.2.2.2.2.1 s.2.2.2.2.2.2.2.1 s.2.2.2.2.2.2.2.2 hI (fun b1 b2 b3 b4 b5 b6 b7 b8 b9 h9 hm => hk (b1, b2, b3, b4, b5, b6, b7, b8, b9) h9 hm)) (a1, a2, a3, a4, a5, a6, a7, a8, a9) h
theorem lp10 {A1 A2 A3 A4 A5 A6 A7 A8 A9 A10 : Type} (W : Nat → A1 → A2 → A3 → A4 → A5 → A6 → A7 → A8 → A9 → A10 → Prop) (I : A1 → A2 → A3 → A4 → A5 → A6 → A7 → A8 → A9 → A10 → Prop) (μ : A1 → A2 → A3 → A4 → A5 → A6 → A7 → A8 → A9 → A10 → Nat) (hs : ∀ (n : Nat) (a1 : A1) (a2 : A2) (a3 : A3) (a4 : A4) (a5 : A5) (a6 : A6) (a7 : A7) (a8 : A8) (a9 : A9) (a10 : A10), I a1 a2 a3 a4 a5 a6 a7 a8 a9 a10 → (∀ (b1 : A1) (b2 : A2) (b3 : A3) (b4 : A4) (b5 : A5) (b6 : A6) (b7 : A7) (b8 : A8) (b9 : A9) (b10 : A10), I b1 b2 b3 b4 b5 b6 b7 b8 b9 b10 → μ b1 b2 b3 b4 b5 b6 b7 b8 b9 b10 < μ a1 a2 a3 a4 a5 a6 a7 a8 a9 a10 → W n b1 b2 b3 b4 b5 b6 b7 b8 b9 b10) → W (n + 1) a1 a2 a3 a4 a5 a6 a7 a8 a9 a10) (a1 : A1) (a2 : A2) (a3 : A3) (a4 : A4) (a5 : A5) (a6 : A6) (a7 : A7) (a8 : A8) (a9 : A9) (a10 : A10) (h : I a1 a2 a3 a4 a5 a6 a7 a8 a9 a10) : ∃ n, W n a1 a2 a3 a4 a5 a6 a7 a8 a9 a10 :=
  loop_m (σ := A1 × A2 × A3 × A4 × A5 × A6 × A7 × A8 × A9 × A10) (fun n s => W n s.1 s.2.1 s.2.2.1 s.2.2.2.1 s.2.2.2.2.1 s.2.2.2.2.2.1 s.2.2.2.2.2.2.1 s.2.2.2.2.2.2.2.1 s.2.2.2.2.2.2.2.2.1 s.2.2.2.2.2.2.2.2.2) (fun s => I s.1 s.2.1 s.2.2.1 s.2.2.2.1 s.2.2.2.2.1 s.2.2.2.2.2.1 s.2.2.2.2.2.2.1 s.2.2.2.2.2.2.2.1 s.2.2.2.2.2.2.2.2.1 s.2.2.2.2.2.2.2.2.2) (fun s => μ s.1 s.2.1 s.2.2.1 s.2.2.2.1 s.2.2.2.2.1 s.2.2.2.2.2.1 s.2.2.2.2.2.2.1 s.2.2.2.2.2.2.2.1 s.2.2.2.2.2.2.2.2.1 s.2.2.2.2.2.2.2.2.2) (fun n s hI hk => hs n s.1 s.2.1 s.2.2.1 s.2.2.2.1 s.2.2.2.2.1 s.2.2.2.2.2.1 s.2.2.2.2.2.2.1 s.2.2.2.2.2.2.2.1 s.2.2.2.2.2.2.2.2.1 s.2.2.2.2.2.2.2.2.2 hI (fun b1 b2 b3 b4 b5 b6 b7 b8 b9 b10 h9 hm => hk (b1, b2, b3, b4, b5, b6, b7, b8, b9, b10) h9 hm)) (a1, a2, a3, a4, a5, a6, a7, a8, a9, a10) h
theorem lp11 {A1 A2 A3 A4 A5 A6 A7 A8 A9 A10 A11 : Type} (W : Nat → A1 → A2 → A3 → A4 → A5 → A6 → A7 → A8 → A9 → A10 → A11 → Prop) (I : A1 → A2 → A3 → A4 → A5 → A6 → A7 → A8 → A9 → A10 → A11 → Prop) (μ : A1 → A2 → A3 → A4 → A5 → A6 → A7 → A8 → A9 → A10 → A11 → Nat) (hs : ∀ (n : Nat) (a1 : A1) (a2 : A2) (a3 : A3) (a4 : A4) (a5 : A5) (a6 : A6) (a7 : A7) (a8 : A8) (a9 : A9) (a10 : A10) (a11 : A11), I a1 a2 a3 a4 a5 a6 a7 a8 a9 a10 a11 → (∀ (b1 : A1) (b2 : A2) (b3 : A3) (b4 : A4) (b5 : A5) (b6 : A6) (b7 : A7) (b8 : A8) (b9 : A9) (b10 : A10) (b11 : A11), I b1 b2 b3 b4 b5 b6 b7 b8 b9 b10 b11 → μ b1 b2 b3 b4 b5 b6 b7 b8 b9 b10 b11 < μ a1 a2 a3 a4 a5 a6 a7 a8 a9 a10 a11 → W n b1 b2 b3 b4 b5 b6 b7 b8 b9 b10 b11) → W (n + 1) a1 a2 a3 a4 a5 a6 a7 a8 a9 a10 a11) (a1 : A1) (a2 : A2) (a3 : A3) (a4 : A4) (a5 : A5) (a6 : A6) (a7 : A7) (a8 : A8) (a9 : A9) (a10 : A10) (a11 : A11) (h : I a1 a2 a3 a4 a5 a6 a7 a8 a9 a10 a11) : ∃ n, W n a1 a2 a3 a4 a5 a6 a7 a8 a9 a10 a11 :=
  loop_m (σ := A1 × A2 × A3 × A4 × A5 × A6 × A7 × A8 × A9 × A10 × A11) (fun n s => W n s.1 s.2.1 s.2.2.1 s.2.2.2.1 s.2.2.2.2.1 s.2.2.2.2.2.1 s.2.2.2.2.2.2.1 s.2.2.2.2.2.2.2.1 s.2.2.2.2.2.2.2.2.1 s.2.2.2.2.2.2.2.2.2.1 s.2.2.2.2.2.2.2.2.2.2) (fun s => I s.1 s.2.1 s.2.2.1 s.2.2.2.1 s.2.2.2.2.1 s.2.2.2.2.2.1 s.2.2.2.2.2.2.1 s.2.2.2.2.2.2.2.1 s.2.2.2.2.2.2.2.2.1 s.2.2.2.2.2.2.2.2.2.1 s.2.2.2.2.2.2.2.2.2.2) (fun s => μ s.1 s.2.1 s.2.2.1 s.2.2.2.1 s.2.2.2.2.1 s.2.2.2.2.2.1 s.2.2.2.2.2.2.1 s.2.2.2.2.2.2.2.1 s.2.2.2.2.2.2.2.2.1 s.2.2.2.2.2.2.2.2.2.1 s.2.2.2.2.2.2.2.2.2.2) (fun n s hI hk => hs n s.1 s.2.1 s.2.2.1 s.2.2.2.1 s.2.2.2.2.1 s.2.2.2.2.2.1 s.2.2.2.2.2.2.1 s.2.2.2.2.2.2.2.1 s.2.2.2.2.2.2.2.2.1 s.2.2.2.2.2.2.2.2.2.1 s.2.2.2.2.2.2.2.2.2.2 hI (fun b1 b2 b3 b4 b5 b6 b7 b8 b9 b10 b11 h9 hm => hk (b1, b2, b3, b4, b5, b6, b7, b8, b9, b10, b11) h9 hm)) (a1, a2, a3, a4, a5, a6, a7, a8, a9, a10, a11) h
theorem lp12 {A1 A2 A3 A4 A5 A6 A7 A8 A9 A10 A11 A12 : Type} (W : Nat → A1 → A2 → A3 → A4 → A5 → A6 → A7 → A8 → A9 → A10 → A11 → A12 → Prop) (I : A1 → A2 → A3 → A4 → A5 → A6 → A7 → A8 → A9 → A10 → A11 → A12 → Prop) (μ : A1 → A2 → A3 → A4 → A5 → A6 → A7 → A8 → A9 → A10 → A11 → A12 → Nat) (hs : ∀ (n : Nat) (a1 : A1) (a2 : A2) (a3 : A3) (a4 : A4) (a5 : A5) (a6 : A6) (a7 : A7) (a8 : A8) (a9 : A9) (a10 : A10) (a11 : A11) (a12 : A12), I a1 a2 a3 a4 a5 a6 a7 a8 a9 a10 a11 a12 → (∀ (b1 : A1) (b2 : A2) (b3 : A3) (b4 : A4) (b5 : A5) (b6 : A6) (b7 : A7) (b8 : A8) (b9 : A9) (b10 : A10) (b11 : A11) (b12 : A12), I b1 b2 b3 b4 b5 b6 b7 b8 b9 b10 b11 b12 → μ b1 b2 b3 b4 b5 b6 b7 b8 b9 b10 b11 b12 < μ a1 a2 a3 a4 a5 a6 a7 a8 a9 a10 a11 a12 → W n b1 b2 b3 b4 b5 b6 b7 b8 b9 b10 b11 b12) → W (n + 1) a1 a2 a3 a4 a5 a6 a7 a8 a9 a10 a11 a12) (a1 : A1) (a2 : A2) (a3 : A3) (a4 : A4) (a5 : A5) (a6 : A6) (a7 : A7) (a8 : A8) (a9 : A9) (a10 : A10) (a11 : A11) (a12 : A12) (h : I a1 a2 a3 a4 a5 a6 a7 a8 a9 a10 a11 a12) : ∃ n, W n a1 a2 a3 a4 a5 a6 a7 a8 a9 a10 a11 a12 :=
  loop_m (σ := A1 × A2 × A3 × A4 × A5 × A6 × A7 × A8 × A9 × A10 × A11 × A12) (fun n s => W n s.1 s.2.1 s.2.2.1 s.2.2.2.1 s.2.2.2.2.1 s.2.2.2.2.2.1 s.2.2.2.2.2.2.1 s.2.2.2.2.2.2.2.1 s.2.2.2.2.2.2.2.2.1 s.2.2.2.2.2.2.2.2.2.1 s.2.2.2.2.2.2.2.2.2.2.1 s.2.2.2.2.2.2.2.2.2.2.2) (fun s => I s.1 s.2.1 s.2.2.1 s.2.2.2.1 s.2.2.2.2.1 s.2.2.2.2.2.1 s.2.2.2.2.2.2.1 s.2.2.2.2.2.2.2.1 s.2.2.2.2.2.2.2.2.1 s.2.2.2.2.2.2.2.2.2.1 s.2.2.2.2.2.2.2.2.2.2.1 s.2.2.2.2.2.2.2.2.2.2.2) (fun s => μ s.1 s.2.1 s.2.2.1 s.2.2.2.1 s.2.2.2.2.1 s.2.2.2.2.2.1 s.2.2.2.2.2.2.1 s.2.2.2.2.2.2.2.1 s.2.2.2.2.2.2.2.2.1 s.2.2.2.2.2.2.2.2.2.1 s.2.2.2.2.2.2.2.2.2.2.1 s.2.2.2.2.2.2.2.2.2.2.2) (fun n s hI hk => hs n s.1 s.2.1 s.2.2.1 s.2.2.2.1 s.2.2.2.2.1 s.2.2.2.2.2.1 s.2.2.2.2.2.2.1 s.2.2.2.2.2.2.2.1 s.2.2.2.2.2.2.2.2.1 s.2.2.2.2.2.2.2.2.2.1 s.2.2.2.2.2.2.2.2.2.2.1 s.2.2.2.2.2.2.2.2.2.2.2 hI (fun b1 b2 b3 b4 b5 b6 b7 b8 b9 b10 b11 b12 h9 hm => hk (b1, b2, b3, b4, b5, b6, b7, b8, b9, b10, b11, b12) h9 hm)) (a1, a2, a3, a4, a5, a6, a7, a8, a9, a10, a11, a12) h
theorem lp13 {A1 A2 A3 A4 A5 A6 A7 A8 A9 A10 A11 A12 A13 : Type} (W : Nat → A1 → A2 → A3 → A4 → A5 → A6 → A7 → A8 → A9 → A10 → A11 → A12 → A13 → Prop) (I : A1 → A2 → A3 → A4 → A5 → A6 → A7 → A8 → A9 → A10 → A11 → A12 → A13 → Prop) (μ : A1 → A2 → A3 → A4 → A5 → A6 → A7 → A8 → A9 → A10 → A11 → A12 → A13 → Nat) (hs : ∀ (n : Nat) (a1 : A1) (a2 : A2) (a3 : A3) (a4 : A4) (a5 : A5) (a6 : A6) (a7 : A7) (a8 : A8) (a9 : A9) (a10 : A10) (a11 : A11) (a12 : A12) (a13 : A13), I a1 a2 a3 a4 a5 a6 a7 a8 a9 a10 a11 a12 a13 → (∀ (b1 : A1) (b2 : A2) (b3 : A3) (b4 : A4) (b5 : A5) (b6 : A6) (b7 : A7) (b8 : A8) (b9 : A9) (b10 : A10) (b11 : A11) (b12 : A12) (b13 : A13), I b1 b2 b3 b4 b5 b6 b7 b8 b9 b10 b11 b12 b13 → μ b1 b2 b3 b4 b5 b6 b7 b8 b9 b10 b11 b12 b13 < μ a1 a2 a3 a4 a5 a6 a7 a8 a9 a10 a11 a12 a13 → W n b1 b2 b3 b4 b5 b6 b7 b8 b9 b10 b11 b12 b13) → W (n + 1) a1 a2 a3 a4 a5 a6 a7 a8 a9 a10 a11 a12 a13) (a1 : A1) (a2 : A2) (a3 : A3) (a4 : A4) (a5 : A5) (a6 : A6) (a7 : A7) (a8 : A8) (a9 : A9) (a10 : A10) (a11 : A11) (a12 : A12) (a13 : A13) (h : I a1 a2 a3 a4 a5 a6 a7 a8 a9 a10 a11 a12 a13) : ∃ n, W n a1 a2 a3 a4 a5 a6 a7 a8 a9 a10 a11 a12 a13 :=
  loop_m (σ := A1 × A2 × A3 × A4 × A5 × A6 × A7 × A8 × A9 × A10 × A11 × A12 × A13) (fun n s => W n s.1 s.2.1 s.2.2.1 s.2.2.2.1 s.2.2.2.2.1 s.2.2.2.2.2.1 s.2.2.2.2.2.2.1 s.2.2.2.2.2.2.2.1 s.2.2.2.2.2.2.2.2.1 s.2.2.2.2.2.2.2.2.2.1 s.2.2.2.2.2.2.2.2.2.2.1 s.2.2.2.2.2.2.2.2.2.2.2.1 s.2.2.2.2.2.2.2.2.2.2.2.2) (fun s => I s.1 s.2.1 s.2.2.1 s.2.2.2.1 s.2.2.2.2.1 s.2.2.2.2.2.1 s.2.2.2.2.2.2.1 s.2.2.2.2.2.2.2.1 s.2.2.2.2.2.2.2.2.1 s.2.2.2.2.2.2.2.2.2.1 s.2.2.2.2.2.2.2.2.2.2.1 s.2.2.2.2.2.2.2.2.2.2.2.1 s.2.2.2.2.2.2.2.2.2.2.2.2) (fun s => μ s.1 s.2.1 s.2.2.1 s.2.2.2.1 s.2.2.2.2.1 s.2.2.2.2.2.1 s.2.2.2.2.2.2.1 s.2.2.2.2.2.2.2.1 s.2.2.2.2.2.2.2.2.1 s.2.2.2.2.2.2.2.2.2.1 s.2.2.2.2.2.2.2.2.2.2.1 s.2.2.2.2.2.2.2.2.2.2.2.1 s.2.2.2.2.2.2.2.2.2.2.2.2) (fun n s hI hk => hs n s.1 s.2.1 s.2.2.1 s.2.2.2.1 s.2.2.2.2.1 s.2.2.2.2.2.1 s.2.2.2.2.2.2.1 s.2.2.2.2.2.2.2.1 s.2.2.2.2.2.2.2.2.1 s.2.2.2.2.2.2.2.2.2.1 s.2.2.2.2.2.2.2.2.2.2.1 s.2.2.2.2.2.2.2.2.2.2.2.1 s.2.2.2.2.2.2.2.2.2.2.2.2 hI (fun b1 b2 b3 b4 b5 b6 b7 b8 b9 b10 b11 b12 b13 h9 hm => hk (b1, b2, b3, b4, b5, b6, b7, b8, b9, b10, b11, b12, b13) h9 hm)) (a1, a2, a3, a4, a5, a6, a7, a8, a9, a10, a11, a12, a13) h
theorem lp14 {A1 A2 A3 A4 A5 A6 A7 A8 A9 A10 A11 A12 A13 A14 : Type} (W : Nat → A1 → A2 → A3 → A4 → A5 → A6 → A7 → A8 → A9 → A10 → A11 → A12 → A13 → A14 → Prop) (I : A1 → A2 → A3 → A4 → A5 → A6 → A7 → A8 → A9 → A10 → A11 → A12 → A13 → A14 → Prop) (μ : A1 → A2 → A3 → A4 → A5 → A6 → A7 → A8 → A9 → A10 → A11 → A12 → A13 → A14 → Nat) (hs : ∀ (n : Nat) (a1 : A1) (a2 : A2) (a3 : A3) (a4 : A4) (a5 : A5) (a6 : A6) (a7 : A7) (a8 : A8) (a9 : A9) (a10 : A10) (a11 : A11) (a12 : A12) (a13 : A13) (a14 : A14), I a1 a2 a3 a4 a5 a6 a7 a8 a9 a10 a11 a12 a13 a14 → (∀ (b1 : A1) (b2 : A2) (b3 : A3) (b4 : A4) (b5 : A5) (b6 : A6) (b7 : A7) (b8 : A8) (b9 : A9) (b10 : A10) (b11 : A11) (b12 : A12) (b13 : A13) (b14 : A14), I b1 b2 b3 b4 b5 b6 b7 b8 b9 b10 b11 b12 b13 b14 → μ b1 b2 b3 b4 b5 b6 b7 b8 b9 b10 b11 b12 b13 b14 < μ a1 a2 a3 a4 a5 a6 a7 a8 a9 a10 a11 a12 a13 a14 → W n b1 b2 b3 b4 b5 b6 b7 b8 b9 b10 b11 b12 b13 b14) → W (n + 1) a1 a2 a3 a4 a5 a6 a7 a8 a9 a10 a11 a12 a13 a14) (a1 : A1) (a2 : A2) (a3 : A3) (a4 : A4) (a5 : A5) (a6 : A6) (a7 : A7) (a8 : A8) (a9 : A9) (a10 : A10) (a11 : A11) (a12 : A12) (a13 : A13) (a14 : A14) (h : I a1 a2 a3 a4 a5 a6 a7 a8 a9 a10 a11 a12 a13 a14) : ∃ n, W n a1 a2 a3 a4 a5 a6 a7 a8 a9 a10 a11 a12 a13 a14 :=
  loop_m (σ := A1 × A2 × A3 × A4 × A5 × A6 × A7 × A8 × A9 × A10 × A11 × A12 × A13 × A14) (fun n s => W n s.1 s.2.1 s.2.2.1 s.2.2.2.1 s.2.2.2.2.1 s.2.2.2.2.2.1 s.2.2.2.2.2.2.1 s.2.2.2.2.2.2.2.1 s.2.2.2.2.2.2.2.2.1 s.2.2.2.2.2.2.2.2.2.1 s.2.2.2.2.2.2.2.2.2.2.1 s.2.2.2.2.2.2.2.2.2.2.2.1 s.2.2.2.2.2.2.2.2.2.2.2.2.1 s.2.2.2.2.2.2.2.2.2.2.2.2.2) (fun s => I s.1 s.2.1 s.2.2.1 s.2.2.2.1 s.2.2.2.2.1 s.2.2.2.2.2.1 s.2.2.2.2.2.2.1 s.2.2.2.2.2.2.2.1 s.2.2.2.2.2.2.2.2.1 s.2.2.2.2.2.2.2.2.2.1 s.2.2.2.2.2.2.2.2.2.2.1 s.2.2.2.2.2.2.2.2.2.2.2.1 s.2.2.2.2.2.2.2.2.2.2.2.2.1 s.2.2.2.2.2.2.2.2.2.2.2.2.2) (fun s => μ s.1 s.2.1 s.2.2.1 s.2.2.2.1 s.2.2.2.2.1 s.2.2.2.2.2.1 s.2.2.2.2.2.2.1 s.2.2.2.2.2.2.2.1 s.2.2.2.2.2.2.2.2.1 s.2.2.2.2.2.2.2.2.2.1 s.2.2.2.2.2.2.2.2.2.2.1 s.2.2.2.2.2.2.2.2.2.2.2.1 s.2.2.2.2.2.2.2.2.2.2.2.2.1 s.2.2.2.2.2.2.2.2.2.2.2.2.2) (fun n s hI hk => hs n s.1 s.2.1 s.2.2.1 s.2.2.2.1 s.2.2.2.2.1 s.2.2.2.2.2.1 s.2.2.2.2.2.2.1 s.2.2.2.2.2.2.2.1 s.2.2.2.2.2.2.2.2.1 s.2.2.2.2.2.2.2.2.2.1 s.2.2.2.2.2.2.2.2.2.2.1 s.2.2.2.2.2.2.2.2.2.2.2.1 s.2.2.2.2.2.2.2.2.2.2.2.2.1 s.2.2.2.2.2.2.2.2.2.2.2.2.2 hI (fun b1 b2 b3 b4 b5 b6 b7 b8 b9 b10 b11 b12 b13 b14 h9 hm => hk (b1, b2, b3, b4, b5, b6, b7, b8, b9, b10, b11, b12, b13, b14) h9 hm)) (a1, a2, a3, a4, a5, a6, a7, a8, a9, a10, a11, a12, a13, a14) h
theorem lp15 {A1 A2 A3 A4 A5 A6 A7 A8 A9 A10 A11 A12 A13 A14 A15 : Type} (W : Nat → A1 → A2 → A3 → A4 → A5 → A6 → A7 → A8 → A9 → A10 → A11 → A12 → A13 → A14 → A15 → Prop) (I : A1 → A2 → A3 → A4 → A5 → A6 → A7 → A8 → A9 → A10 → A11 → A12 → A13 → A14 → A15 → Prop) (μ : A1 → A2 → A3 → A4 → A5 → A6 → A7 → A8 → A9 → A10 → A11 → A12 → A13 → A14 → A15 → Nat) (hs : ∀ (n : Nat) (a1 : A1) (a2 : A2) (a3 : A3) (a4 : A4) (a5 : A5) (a6 : A6) (a7 : A7) (a8 : A8) (a9 : A9) (a10 : A10) (a11 : A11) (a12 : A12) (a13 : A13) (a14 : A14) (a15 : A15), I a1 a2 a3 a4 a5 a6 a7 a8 a9 a10 a11 a12 a13 a14 a15 → (∀ (b1 : A1) (b2 : A2) (b3 : A3) (b4 : A4) (b5 : A5) (b6 : A6) (b7 : A7) (b8 : A8) (b9 : A9) (b10 : A10) (b11 : A11) (b12 : A12) (b13 : A13) (b14 : A14) (b15 : A15), I b1 b2 b3 b4 b5 b6 b7 b8 b9 b10 b11 b12 b13 b14 b15 → μ b1 b2 b3 b4 b5 b6 b7 b8 b9 b10 b11 b12 b13 b14 b15 < μ a1 a2 a3 a4 a5 a6 a7 a8 a9 a10 a11 a12 a13 a14 a15 → W n b1 b2 b3 b4 b5 b6 b7 b8 b9 b10 b11 b12 b13 b14 b15) → W (n + 1) a1 a2 a3 a4 a5 a6 a7 a8 a9 a10 a11 a12 a13 a14 a15) (a1 : A1) (a2 : A2) (a3 : A3) (a4 : A4) (a5 : A5) (a6 : A6) (a7 : A7) (a8 : A8) (a9 : A9) (a10 : A10) (a11 : A11) (a12 : A12) (a13 : A13) (a14 : A14) (a15 : A15) (h : I a1 a2 a3 a4 a5 a6 a7 a8 a9 a10 a11 a12 a13 a14 a15) : ∃ n, W n a1 a2 a3 a4 a5 a6 a7 a8 a9 a10 a11 a12 a13 a14 a15 :=
  loop_m (σ := A1 × A2 × A3 × A4 × A5 × A6 × A7 × A8 × A9 × A10 × A11 × A12 × A13 × A14 × A15) (fun n s => W n s.1 s.2.1 s.2.2.1 s.2.2.2.1 s.2.2.2.2.1 s.2.2.2.2.2.1 s.2.2.2.2.2.2.1 s.2.2.2.2.2.2.2.1 s.2.2.2.2.2.2.2.2.1 s.2.2.2.2.2.2.2.2.2.1 s.2.2.2.2.2.2.2.2.2.2.1 s.2.2.2.2.2.2.2.2.2.2.2.1 s.2.2.2.2.2.2.2.2.2.2.2.2.1 s.2.2.2.2.2.2.2.2.2.2.2.2.2.1 s.2.2.2.2.2.2.2.2.2.2.2.2.2.2) (fun s => I s.1 s.2.1 s.2.2.1 s.2.2.2.1 s.2.2.2.2.1 s.2.2.2.2.2.1 s.2.2.2.2.2.2.1 s.2.2.2.2.2.2.2.1 s.2.2.2.2.2.2.2.2.1 s.2.2.2.2.2.2.2.2.2.1 s.2.2.2.2.2.2.2.2.2.2.1 s.2.2.2.2.2.2.2.2.2.2.2.1 s.2.2.2.2.2.2.2.2.2.2.2.2.1 s.2.2.2.2.2.2.2.2.2.2.2.2.2.1 s.2.2.2.2.2.2.2.2.2.2.2.2.2.2) (fun s => μ s.1 s.2.1 s.2.2.1 s.2.2.2.1 s.2.2.2.2.1 s.2.2.2.2.2.1 s.2.2.2.2.2.2.1 s.2.2.2.2.2.2.2.1 s.2.2.2.2.2.2.2.2.1 s.2.2.2.2.2.2.2.2.2.1 s.2.2.2.2.2.2.2.2.2.2.1 s.2.2.2.2.2.2.2.2.2.2.2.1 s.2.2.2.2.2.2.2.2.2.2.2.2.1 s.2.2.2.2.2.2.2.2.2.2.2.2.2.1 s.2.2.2.2.2.2.2.2.2.2.2.2.2.2) (fun n s hI hk => hs n s.1 s.2.1 s.2.2.1 s.2.2.2.1 s.2.2.2.2.1 s.2.2.2.2.2.1 s.2.2.2.2.2.2.1 s.2.2.2.2.2.2.2.1 s.2.2.2.2.2.2.2.2.1 s.2.2.2.2.2.2.2.2.2.1 s.2.2.2.2.2.2.2.2.2.2.1 s.2.2.2.2.2.2.2.2.2.2.2.1 s.2.2.2.2.2.2.2.2.2.2.2.2.1 s.2.2.2.2.2.2.2.2.2.2.2.2.2.1 s.2.2.2.2.2.2.2.2.2.2.2.2.2.2 hI (fun b1 b2 b3 b4 b5 b6 b7 b8 b9 b10 b11 b12 b13 b14 b15 h9 hm => hk (b1, b2, b3, b4, b5, b6, b7, b8, b9, b10, b11, b12, b13, b14, b15) h9 hm)) (a1, a2, a3, a4, a5, a6, a7, a8, a9, a10, a11, a12, a13, a14, a15) h
theorem lp16 {A1 A2 A3 A4 A5 A6 A7 A8 A9 A10 A11 A12 A13 A14 A15 A16 : Type} (W : Nat → A1 → A2 → A3 → A4 → A5 → A6 → A7 → A8 → A9 → A10 → A11 → A12 → A13 → A14 → A15 → A16 → Prop) (I : A1 → A2 → A3 → A4 → A5 → A6 → A7 → A8 → A9 → A10 → A11 → A12 → A13 → A14 → A15 → A16 → Prop) (μ : A1 → A2 → A3 → A4 → A5 → A6 → A7 → A8 → A9 → A10 → A11 → A12 → A13 → A14 → A15 → A16 → Nat) (hs : ∀ (n : Nat) (a1 : A1) (a2 : A2) (a3 : A3) (a4 : A4) (a5 : A5) (a6 : A6) (a7 : A7) (a8 : A8) (a9 : A9) (a10 : A10) (a11 : A11) (a12 : A12) (a13 : A13) (a14 : A14) (a15 : A15) (a16 : A16), I a1 a2 a3 a4 a5 a6 a7 a8 a9 a10 a11 a12 a13 a14 a15 a16 → (∀ (b1 : A1) (b2 : A2) (b3 : A3) (b4 : A4) (b5 : A5) (b6 : A6) (b7 : A7) (b8 : A8) (b9 : A9) (b10 : A10) (b11 : A11) (b12 : A12) (b13 : A13) (b14 : A14) (b15 : A15) (b16 : A16), I b1 b2 b3 b4 b5 b6 b7 b8 b9 b10 b11 b12 b13 b14 b15 b16 → μ b1 b2 b3 b4 b5 b6 b7 b8 b9 b10 b11 b12 b13 b14 b15 b16 < μ a1 a2 a3 a4 a5 a6 a7 a8 a9 a10 a11 a12 a13 a14 a15 a16 → W n b1 b2 b3 b4 b5 b6 b7 b8 b9 b10 b11 b12 b13 b14 b15 b16) → W (n + 1) a1 a2 a3 a4 a5 a6 a7 a8 a9 a10 a11 a12 a13 a14 a15 a16) (a1 : A1) (a2 : A2) (a3 : A3) (a4 : A4) (a5 : A5) (a6 : A6) (a7 : A7) (a8 : A8) (a9 : A9) (a10 : A10) (a11 : A11) (a12 : A12) (a13 : A13) (a14 : A14) (a15 : A15) (a16 : A16) (h : I a1 a2 a3 a4 a5 a6 a7 a8 a9 a10 a11 a12 a13 a14 a15 a16) : ∃ n, W n a1 a2 a3 a4 a5 a6 a7 a8 a9 a10 a11 a12 a13 a14 a15 a16 :=
  loop_m (σ := A1 × A2 × A3 × A4 × A5 × A6 × A7 × A8 × A9 × A10 × A11 × A12 × A13 × A14 × A15 × A16) (fun n s => W n s.1 s.2.1 s.2.2.1 s.2.2.2.1 s.2.2.2.2.1 s.2.2.2.2.2.1 s.2.2.2.2.2.2.1 s.2.2.2.2.2.2.2.1 s.2.2.2.2.2.2.2.2.1 s.2.2.2.2.2.2.2.2.2.1 s.2.2.2.2.2.2.2.2.2.2.1 s.2.2.2.2.2.2.2.2.2.2.2.1 s.2.2.2.2.2.2.2.2.2.2.2.2.1 s.2.2.2.2.2.2.2.2.2.2.2.2.2.1 s.2.2.2.2.2.2.2.2.2.2.2.2.2.2.1 s.2.2.2.2.2.2.2.2.2.2.2.2.2.2.2) (fun s => I s.1 s.2.1 s.2.2.1 s.2.2.2.1 s.2.2.2.2.1 s.2.2.2.2.2.1 s.2.2.2.2.2.2.1 s.2.2.2.2.2.2.2.1 s.2.2.2.2.2.2.2.2.1 s.2.2.2.2.2.2.2.2.2.1 s.2.2.2.2.2.2.2.2.2.2.1 s.2.2.2.2.2.2.2.2.2.2.2.1 s.2.2.2.2.2.2.2.2.2.2.2.2.1 s.2.2.2.2.2.2.2.2.2.2.2.2.2.1 s.2.2.2.2.2.2.2.2.2.2.2.2.2.2.1 s.2.2.2.2.2.2.2.2.2.2.2.2.2.2.2) (fun s => μ s.1 s.2.1 s.2.2.1 s.2.2.2.1 s.2.2.2.2.1 s.2.2.2.2.2.1 s.2.2.2.2.2.2.1 s.2.2.2.2.2.2.2.1 s.2.2.2.2.2.2.2.2.1 s.2.2.2.2.2.2.2.2.2.1 s.2.2.2.2.2.2.2.2.2.2.1 s.2.2.2.2.2.2.2.2.2.2.2.1 s.2.2.2.2.2.2.2.2.2.2.2.2.1 s.2.2.2.2.2.2.2.2.2.2.2.2.2.1 s.2.2.2.2.2.2.2.2.2.2.2.2.2.2.1 s.2.2.2.2.2.2.2.2.2.2.2.2.2.2.2) (fun n s hI hk => hs n s.1 s.2.1 s.2.2.1 s.2.2.2.1 s.2.2.2.2.1 s.2.2.2.2.2.1 s.2.2.2.2.2.2.1 s.2.2.2.2.2.2.2.1 s.2.2.2.2.2.2.2.2.1 s.2.2.2.2.2.2.2.2.2.1 s.2.2.2.2.2.2.2.2.2.2.1 s.2.2.2.2.2.2.2.2.2.2.2.1 s.2.2.2.2.2.2.2.2.2.2.2.2.1 s.2.2.2.2.2.2.2.2.2.2.2.2.2.1 s.2.2.2.2.2.2.2.2.2.2.2.2.2.2.1 s.2.2.2.2.2.2.2.2.2.2.2.2.2.2.2 hI (fun b1 b2 b3 b4 b5 b6 b7 b8 b9 b10 b11 b12 b13 b14 b15 b16 h9 hm => hk (b1, b2, b3, b4, b5, b6, b7, b8, b9, b10, b11, b12, b13, b14, b15, b16) h9 hm)) (a1, a2, a3, a4, a5, a6, a7, a8, a9, a10, a11, a12, a13, a14, a15, a16) h
theorem pk_least (P : Nat → Prop) (h : ∃ k, P k) : ∃ k, P k ∧ ∀ j, j < k → ¬ P j := by
  obtain ⟨k, hk⟩ := h
  induction k using Nat.strongRecOn with
  | ind k ih =>
    by_cases e : ∃ j, j < k ∧ P j
    · obtain ⟨j, hj, pj⟩ := e
      exact ih j hj pj
    · exact ⟨k, hk, fun j hj pj => e ⟨j, hj, pj⟩⟩
theorem rp1 {ρ A1 : Type} (W : Nat → (ρ → Prop) → A1 → Prop) (ok : A1 → Prop) (μ : A1 → Nat) (val : A1 → ρ)
    (hs : ∀ (d : Nat) (post : ρ → Prop) (a1 : A1), ok a1 → post (val a1) → (∀ (post' : ρ → Prop) (b1 : A1), ok b1 → μ b1 < μ a1 → post' (val b1) → W d post' b1) → W (d + 1) post a1) :
    ∀ (d : Nat) (post : ρ → Prop) (a1 : A1), ok a1 → μ a1 < d → post (val a1) → W d post a1 := by
  intro d
  induction d with
  | zero => intro post a1 _ h; omega
  | succ d ih =>
    intro post a1 ho hm hp
    exact hs d post a1 ho hp (fun post' b1 ho' hm' hp' => ih post' b1 ho' (by omega) hp')
theorem rp2 {ρ A1 A2 : Type} (W : Nat → (ρ → Prop) → A1 → A2 → Prop) (ok : A1 → A2 → Prop) (μ : A1 → A2 → Nat) (val : A1 → A2 → ρ)
    (hs : ∀ (d : Nat) (post : ρ → Prop) (a1 : A1) (a2 : A2), ok a1 a2 → post (val a1 a2) → (∀ (post' : ρ → Prop) (b1 : A1) (b2 : A2), ok b1 b2 → μ b1 b2 < μ a1 a2 → post' (val b1 b2) → W d post' b1 b2) → W (d + 1) post a1 a2) :
    ∀ (d : Nat) (post : ρ → Prop) (a1 : A1) (a2 : A2), ok a1 a2 → μ a1 a2 < d → post (val a1 a2) → W d post a1 a2 := by
  intro d
  induction d with
  | zero => intro post a1 a2 _ h; omega
  | succ d ih =>
    intro post a1 a2 ho hm hp
    exact hs d post a1 a2 ho hp (fun post' b1 b2 ho' hm' hp' => ih post' b1 b2 ho' (by omega) hp')
theorem rp3 {ρ A1 A2 A3 : Type} (W : Nat → (ρ → Prop) → A1 → A2 → A3 → Prop) (ok : A1 → A2 → A3 → Prop) (μ : A1 → A2 → A3 → Nat) (val : A1 → A2 → A3 → ρ)
    (hs : ∀ (d : Nat) (post : ρ → Prop) (a1 : A1) (a2 : A2) (a3 : A3), ok a1 a2 a3 → post (val a1 a2 a3) → (∀ (post' : ρ → Prop) (b1 : A1) (b2 : A2) (b3 : A3), ok b1 b2 b3 → μ b1 b2 b3 < μ a1 a2 a3 → post' (val b1 b2 b3) → W d post' b1 b2 b3) → W (d + 1) post a1 a2 a3) :
    ∀ (d : Nat) (post : ρ → Prop) (a1 : A1) (a2 : A2) (a3 : A3), ok a1 a2 a3 → μ a1 a2 a3 < d → post (val a1 a2 a3) → W d post a1 a2 a3 := by
  intro d
  induction d with
  | zero => intro post a1 a2 a3 _ h; omega
  | succ d ih =>
    intro post a1 a2 a3 ho hm hp
    exact hs d post a1 a2 a3 ho hp (fun post' b1 b2 b3 ho' hm' hp' => ih post' b1 b2 b3 ho' (by omega) hp')
theorem rp4 {ρ A1 A2 A3 A4 : Type} (W : Nat → (ρ → Prop) → A1 → A2 → A3 → A4 → Prop) (ok : A1 → A2 → A3 → A4 → Prop) (μ : A1 → A2 → A3 → A4 → Nat) (val : A1 → A2 → A3 → A4 → ρ)
    (hs : ∀ (d : Nat) (post : ρ → Prop) (a1 : A1) (a2 : A2) (a3 : A3) (a4 : A4), ok a1 a2 a3 a4 → post (val a1 a2 a3 a4) → (∀ (post' : ρ → Prop) (b1 : A1) (b2 : A2) (b3 : A3) (b4 : A4), ok b1 b2 b3 b4 → μ b1 b2 b3 b4 < μ a1 a2 a3 a4 → post' (val b1 b2 b3 b4) → W d post' b1 b2 b3 b4) → W (d + 1) post a1 a2 a3 a4) :
    ∀ (d : Nat) (post : ρ → Prop) (a1 : A1) (a2 : A2) (a3 : A3) (a4 : A4), ok a1 a2 a3 a4 → μ a1 a2 a3 a4 < d → post (val a1 a2 a3 a4) → W d post a1 a2 a3 a4 := by
  intro d
  induction d with
  | zero => intro post a1 a2 a3 a4 _ h; omega
  | succ d ih =>
    intro post a1 a2 a3 a4 ho hm hp
    exact hs d post a1 a2 a3 a4 ho hp (fun post' b1 b2 b3 b4 ho' hm' hp' => ih post' b1 b2 b3 b4 ho' (by omega) hp')
theorem rp5 {ρ A1 A2 A3 A4 A5 : Type} (W : Nat → (ρ → Prop) → A1 → A2 → A3 → A4 → A5 → Prop) (ok : A1 → A2 → A3 → A4 → A5 → Prop) (μ : A1 → A2 → A3 → A4 → A5 → Nat) (val : A1 → A2 → A3 → A4 → A5 → ρ)
    (hs : ∀ (d : Nat) (post : ρ → Prop) (a1 : A1) (a2 : A2) (a3 : A3) (a4 : A4) (a5 : A5), ok a1 a2 a3 a4 a5 → post (val a1 a2 a3 a4 a5) → (∀ (post' : ρ → Prop) (b1 : A1) (b2 : A2) (b3 : A3) (b4 : A4) (b5 : A5), ok b1 b2 b3 b4 b5 → μ b1 b2 b3 b4 b5 < μ a1 a2 a3 a4 a5 → post' (val b1 b2 b3 b4 b5) → W d post' b1 b2 b3 b4 b5) → W (d + 1) post a1 a2 a3 a4 a5) :
    ∀ (d : Nat) (post : ρ → Prop) (a1 : A1) (a2 : A2) (a3 : A3) (a4 : A4) (a5 : A5), ok a1 a2 a3 a4 a5 → μ a1 a2 a3 a4 a5 < d → post (val a1 a2 a3 a4 a5) → W d post a1 a2 a3 a4 a5 := by
  intro d
  induction d with
  | zero => intro post a1 a2 a3 a4 a5 _ h; omega
  | succ d ih =>
    intro post a1 a2 a3 a4 a5 ho hm hp
    exact hs d post a1 a2 a3 a4 a5 ho hp (fun post' b1 b2 b3 b4 b5 ho' hm' hp' => ih post' b1 b2 b3 b4 b5 ho' (by omega) hp')
theorem rp6 {ρ A1 A2 A3 A4 A5 A6 : Type} (W : Nat → (ρ → Prop) → A1 → A2 → A3 → A4 → A5 → A6 → Prop) (ok : A1 → A2 → A3 → A4 → A5 → A6 → Prop) (μ : A1 → A2 → A3 → A4 → A5 → A6 → Nat) (val : A1 → A2 → A3 → A4 → A5 → A6 → ρ)
    (hs : ∀ (d : Nat) (post : ρ → Prop) (a1 : A1) (a2 : A2) (a3 : A3) (a4 : A4) (a5 : A5) (a6 : A6), ok a1 a2 a3 a4 a5 a6 → post (val a1 a2 a3 a4 a5 a6) → (∀ (post' : ρ → Prop) (b1 : A1) (b2 : A2) (b3 : A3) (b4 : A4) (b5 : A5) (b6 : A6), ok b1 b2 b3 b4 b5 b6 → μ b1 b2 b3 b4 b5 b6 < μ a1 a2 a3 a4 a5 a6 → post' (val b1 b2 b3 b4 b5 b6) → W d post' b1 b2 b3 b4 b5 b6) → W (d + 1) post a1 a2 a3 a4 a5 a6) :
    ∀ (d : Nat) (post : ρ → Prop) (a1 : A1) (a2 : A2) (a3 : A3) (a4 : A4) (a5 : A5) (a6 : A6), ok a1 a2 a3 a4 a5 a6 → μ a1 a2 a3 a4 a5 a6 < d → post (val a1 a2 a3 a4 a5 a6) → W d post a1 a2 a3 a4 a5 a6 := by
  intro d
  induction d with
  | zero => intro post a1 a2 a3 a4 a5 a6 _ h; omega
  | succ d ih =>
    intro post a1 a2 a3 a4 a5 a6 ho hm hp
    exact hs d post a1 a2 a3 a4 a5 a6 ho hp (fun post' b1 b2 b3 b4 b5 b6 ho' hm' hp' => ih post' b1 b2 b3 b4 b5 b6 ho' (by omega) hp')
theorem rec_p {σ ρ : Type} (W : Nat → (ρ → Prop) → σ → Prop) (ok : σ → Prop) (μ : σ → Nat) (val : σ → ρ)
    (hs : ∀ d s post, ok s → post (val s) → (∀ s' post', ok s' → μ s' < μ s → post' (val s') → W d post' s') → W (d + 1) post s) :
    ∀ d s post, ok s → μ s < d → post (val s) → W d post s := by
  intro d
  induction d with
  | zero => intro s post _ h; omega
  | succ d ih =>
    intro s post ho hm hp
    exact hs d s post ho hp (fun s' post' ho' hm' hp' => ih s' post' ho' (by omega) hp')
theorem rec_q {σ ρ : Type} (W : Nat → (ρ → Prop) → σ → Prop) (ok : σ → Prop) (μ : σ → Nat) (Q : σ → ρ → Prop)
    (hs : ∀ d s post, ok s → (∀ r, Q s r → post r) → (∀ s' post', ok s' → μ s' < μ s → (∀ r, Q s' r → post' r) → W d post' s') → W (d + 1) post s) :
    ∀ d s post, ok s → μ s < d → (∀ r, Q s r → post r) → W d post s := by
  intro d
  induction d with
  | zero => intro s post _ h; omega
  | succ d ih =>
    intro s post ho hm hp
    exact hs d s post ho hp (fun s' post' ho' hm' hp' => ih s' post' ho' (by omega) hp')
def bx_sum (f : Nat → Int32) : Nat → Int32
  | 0 => 0
  | n + 1 => bx_sum f n + f n
theorem ek_u {A : Prop} {B : Nat → Prop} {k N : Nat} (hk : k < N) (h : B k) : (some k = none → A) ∧ (∀ y : Nat, some k = some y → (y < N ∧ B y)) :=
  ⟨fun z => absurd z (Option.some_ne_none k), fun _ e => (by cases e; exact ⟨hk, h⟩)⟩
theorem ek_nu {A : Prop} {B : Nat → Prop} (h : A) : ((none : Option Nat) = none → A) ∧ (∀ y : Nat, (none : Option Nat) = some y → B y) :=
  ⟨fun _ => h, fun _ e => (by cases e)⟩
theorem ek_if {c d A B : Prop} (e : c ↔ d) (f : d → A) (g : ¬ d → B) : (c → A) ∧ (¬ c → B) :=
  ⟨fun z => f (e.mp z), fun z => g (fun y => z (e.mpr y))⟩
theorem ek_v {α : Sort _} {P : α → Prop} {a b : α} (e : a = b) (h : P b) : P a := e ▸ h
theorem co_some {x : Option Nat} {A : Prop} {B : Nat → Prop} (i : Nat) (h : B i) (hx : x = some i := by rfl) : (x = none → A) ∧ (∀ y : Nat, x = some y → B y) := by
  subst hx
  exact ⟨fun e => (nomatch e), fun y e => Option.some.inj e ▸ h⟩
theorem co_none {x : Option Nat} {A : Prop} {B : Nat → Prop} (h : A) (hx : x = none := by rfl) : (x = none → A) ∧ (∀ y : Nat, x = some y → B y) := by
  subst hx
  exact ⟨fun _ => h, fun y e => (nomatch e)⟩
theorem co_any {x : Option Nat} {A : Prop} {B : Nat → Prop} (hn : x = none → A) (hs : ∀ i : Nat, x = some i → B i) : (x = none → A) ∧ (∀ y : Nat, x = some y → B y) := ⟨hn, hs⟩
theorem co_2 {P : Nat → Prop} (h0 : P 0) (h1 : P 1) {i : Nat} (hi : i < 2) : P i :=
  match i, hi with
  | 0, _ => h0
  | 1, _ => h1
theorem co_3 {P : Nat → Prop} (h0 : P 0) (h1 : P 1) (h2 : P 2) {i : Nat} (hi : i < 3) : P i :=
  match i, hi with
  | 0, _ => h0
  | 1, _ => h1
  | 2, _ => h2
theorem co_4 {P : Nat → Prop} (h0 : P 0) (h1 : P 1) (h2 : P 2) (h3 : P 3) {i : Nat} (hi : i < 4) : P i :=
  match i, hi with
  | 0, _ => h0
  | 1, _ => h1
  | 2, _ => h2
  | 3, _ => h3
theorem co_dec {N : Nat} {P : Nat → Prop} [DecidablePred P] (h : (List.range N).all (fun i => decide (P i)) = true) {i : Nat} (hi : i < N) : P i := by
  have := List.all_eq_true.mp h i (List.mem_range.mpr hi)
  exact of_decide_eq_true this
theorem co_tab {α : Type} {l : List α} {d : α} {P : α → Prop} (h : ∀ a, a ∈ l → P a) {i : Nat} (hi : i < l.length) : P (l.getD i d) := by
  rw [List.getD_eq_getElem?_getD, List.getElem?_eq_getElem hi]
  exact h _ (List.getElem_mem hi)
theorem pk_mu {x : Int32} {L : Nat} (h0 : ¬ x < 0) (h : ¬ nI L ≤ x) (hL : L < 2 ^ 31) : ∃ j : Nat, j < L ∧ x = nI j ∧ x + 1 = nI (j + 1) ∧ x.toNatClampNeg = j ∧ L - (x + 1).toNatClampNeg < L - x.toNatClampNeg := by
  obtain ⟨j, hj, rfl⟩ := nI_of h0
  have hl : j < L := Nat.not_le.mp fun q => h (nI_le q hj)
  refine ⟨j, hl, rfl, nI_1 j, nI_clamp hj, ?_⟩
  rw [nI_1, nI_clamp (by omega), nI_clamp hj]
  omega
theorem op_s {α : Type} {r : Option α} {A : Prop} {B : α → Prop} {y : α} (h : r = some y) (b : B y) : (r = none → A) ∧ ∀ z, r = some z → B z :=
  ⟨fun e => (by rw [h] at e; cases e), fun z e => (by rw [h] at e; cases e; exact b)⟩
def l_holds {α : Type} (a : Nat → Option Nat) (LP : List Nat) (p : Nat → α) (c : Nat) (b : Nat → α) : Prop :=
  ∀ j, j < c → ∃ y, a j = some y ∧ y ∈ LP ∧ p y = b j
theorem l_holds_0 {α : Type} {a : Nat → Option Nat} {LP : List Nat} {p b : Nat → α} : l_holds a LP p 0 b := fun j h => absurd h (Nat.not_lt_zero j)
theorem l_in_new (LP : List Nat) (q : Nat) : q ∈ LP ++ [q] := List.mem_append.mpr (Or.inr (List.mem_singleton.mpr rfl))
def l_sum (b : Nat → Int32) : Nat → Int32
  | 0 => 0
  | k + 1 => l_sum b k + b k
theorem sb_shr0 (x : Int32) : x >>> ((0 : Int32) &&& 31) = x := by
  rw [show ((0 : Int32) &&& 31) = 0 by decide]
  simp
theorem sb_shl0 (x : Int32) : x <<< ((0 : Int32) &&& 31) = x := by
  rw [show ((0 : Int32) &&& 31) = 0 by decide]
  simp
theorem sb_cl0 : (0 : Int32).toNatClampNeg = 0 := by decide
theorem sb_m1 {p : Nat} (h : 0 < p) : nI p + (-1) = nI (p - 1) := by
  obtain ⟨q, rfl⟩ : ∃ q, p = q + 1 := ⟨p - 1, by omega⟩
  exact pk_m1 q
def sb_b (c : Nat) : Int32 := (nI c).toInt8.toInt32
theorem sb_byte : ∀ c, c < 256 → sb_b c &&& 255 = nI c ∧ ((nI c).toUInt32 % 65536).toInt32 = nI c ∧ nI c ≤ 255 := by decide +kernel
def sb_Fit (a : Nat → Int32) : Prop := ∀ j, fits .byte (.int (a j)) = true
def sb_Lat (t : Nat → Nat) (n : Nat) (a : Nat → Int32) : Prop := ∀ j, j < n → t j < 256 ∧ a j = sb_b (t j)
theorem sb_fitB (c : Nat) : fits .byte (.int (sb_b c)) = true := pk_fb _
theorem sb_fit0 : sb_Fit (fun _ => 0) := fun _ => by
  show fits .byte (.int 0) = true
  decide
theorem sb_fitU {a : Nat → Int32} {k : Nat} {x : Int32} (h : sb_Fit a) (hx : fits .byte (.int x) = true) : sb_Fit (upd a k x) := by
  intro j
  by_cases e : j = k
  · subst e
    rw [pk_us]
    exact hx
  · rw [pk_un e]
    exact h j
def sb_cat (t : Nat → Nat) (n : Nat) (s : Nat → Nat) : Nat → Nat := fun j => if j < n then t j else s (j - n)
theorem sb_cat_lo {t s : Nat → Nat} {n j : Nat} (h : j < n) : sb_cat t n s j = t j := if_pos h
theorem sb_cat_hi {t s : Nat → Nat} {n j : Nat} : sb_cat t n s (n + j) = s j := by
  show (if n + j < n then t (n + j) else s (n + j - n)) = s j
  rw [if_neg (by omega), Nat.add_sub_cancel_left]
theorem sb_latPut {t s : Nat → Nat} {n w : Nat} {a a' : Nat → Int32} (h : sb_Lat t n a) (hk : ∀ j, j < n → a' j = a j) (hs : ∀ i, i < w → s i < 256 ∧ a' (n + i) = sb_b (s i)) : sb_Lat (sb_cat t n s) (n + w) a' := by
  intro j hj
  by_cases e : j < n
  · rw [sb_cat_lo e, hk j e]
    exact h j e
  · obtain ⟨i, rfl⟩ : ∃ i, j = n + i := ⟨j - n, by omega⟩
    rw [sb_cat_hi]
    exact hs i (by omega)
theorem sb_latKeep {t : Nat → Nat} {n : Nat} {a a' : Nat → Int32} (h : sb_Lat t n a) (hk : ∀ j, j < n → a' j = a j) : sb_Lat t n a' := fun j hj => by
  rw [hk j hj]
  exact h j hj
def sb_cap (q m : Nat) : Nat := if q ≤ m then m else if 2 * m + 2 < q then q else 2 * m + 2
def sb_Room (q m mc ms : Nat) : Prop := q ≤ m ∨ (1 ≤ mc ∧ sb_cap q m ≤ ms ∧ sb_cap q m ≤ 65536)
theorem sb_cap_ge (q m : Nat) : q ≤ sb_cap q m := by
  unfold sb_cap
  split
  · omega
  · split <;> omega
theorem sb_cap_gem (q m : Nat) : m ≤ sb_cap q m := by
  unfold sb_cap
  split
  · omega
  · split <;> omega
theorem sb_cap_le {q m mc ms : Nat} (hm : m ≤ 65536) (hr : sb_Room q m mc ms) : sb_cap q m ≤ 65536 := by
  rcases hr with h | h
  · rw [sb_cap, if_pos h]
    exact hm
  · exact h.2.2
theorem sb_at {P : Int32 → Prop} {x y : Int32} (e : x = y) (h : P y) : P x := e ▸ h
def sb_dg (w : Nat) : Nat := if w < 10 then 1 else if w < 100 then 2 else if w < 1000 then 3 else if w < 10000 then 4 else if w < 100000 then 5 else if w < 1000000 then 6 else if w < 10000000 then 7 else if w < 100000000 then 8 else if w < 1000000000 then 9 else 10
def sb_dec (v : Nat) : Nat → Nat := fun i => 48 + v / 10 ^ (sb_dg v - 1 - i) % 10
theorem sb_dg_in (w : Nat) : 1 ≤ sb_dg w ∧ sb_dg w ≤ 10 := by
  unfold sb_dg
  constructor <;> (repeat' split) <;> omega
theorem sb_dg100 {w : Nat} (h : 100 ≤ w) (hw : w < 2 ^ 31) : sb_dg w = sb_dg (w / 100) + 2 := by
  rw [sb_dg, sb_dg, if_neg (show ¬ w < 10 by omega), if_neg (show ¬ w < 100 by omega)]
  by_cases h3 : w < 1000
  · rw [if_pos h3, if_pos (show w / 100 < 10 by omega)]
  rw [if_neg h3, if_neg (show ¬ w / 100 < 10 by omega)]
  by_cases h4 : w < 10000
  · rw [if_pos h4, if_pos (show w / 100 < 100 by omega)]
  rw [if_neg h4, if_neg (show ¬ w / 100 < 100 by omega)]
  by_cases h5 : w < 100000
  · rw [if_pos h5, if_pos (show w / 100 < 1000 by omega)]
  rw [if_neg h5, if_neg (show ¬ w / 100 < 1000 by omega)]
  by_cases h6 : w < 1000000
  · rw [if_pos h6, if_pos (show w / 100 < 10000 by omega)]
  rw [if_neg h6, if_neg (show ¬ w / 100 < 10000 by omega)]
  by_cases h7 : w < 10000000
  · rw [if_pos h7, if_pos (show w / 100 < 100000 by omega)]
  rw [if_neg h7, if_neg (show ¬ w / 100 < 100000 by omega)]
  by_cases h8 : w < 100000000
  · rw [if_pos h8, if_pos (show w / 100 < 1000000 by omega)]
  rw [if_neg h8, if_neg (show ¬ w / 100 < 1000000 by omega)]
  by_cases h9 : w < 1000000000
  · rw [if_pos h9, if_pos (show w / 100 < 10000000 by omega)]
  rw [if_neg h9, if_neg (show ¬ w / 100 < 10000000 by omega)]
  rw [if_pos (show w / 100 < 100000000 by omega)]
theorem sb_negT {w : Nat} (h : w < 2 ^ 31) : (-nI w).toInt = -(w : Int) := by
  rw [Int32.toInt_neg, nI_toInt h]
  exact Int.bmod_eq_of_le (by omega) (by omega)
theorem sb_nle {a b : Nat} (ha : a < 2 ^ 31) (hb : b < 2 ^ 31) : -nI a ≤ -nI b ↔ b ≤ a := by
  rw [Int32.le_iff_toInt_le, sb_negT ha, sb_negT hb]
  omega
theorem sb_nlt {a b : Nat} (ha : a < 2 ^ 31) (hb : b < 2 ^ 31) : -nI a < -nI b ↔ b < a := by
  rw [Int32.lt_iff_toInt_lt, sb_negT ha, sb_negT hb]
  omega
theorem sb_cmp {A B : Prop} {x : Int32} (v c : Nat) (f : c ≤ v → A) (g : v < c → B) (hv : v < 2 ^ 31) (hx : x = -nI c := by rfl) (hc : c < 2 ^ 31 := by omega) : (-nI v ≤ x → A) ∧ (¬ -nI v ≤ x → B) := by
  subst hx
  rw [sb_nle hv hc]
  exact ⟨f, fun z => g (by omega)⟩
theorem sb_ndiv {w : Nat} (hw : w < 2 ^ 31) : (-nI w) / 100 = -nI (w / 100) := by
  apply Int32.toInt_inj.mp
  have h100 : (100 : Int32).toInt = 100 := by decide
  rw [Int32.toInt_div, sb_negT hw, h100, sb_negT (by omega), Int.neg_tdiv, Int.tdiv_eq_ediv_of_nonneg (by omega), Int.bmod_eq_of_le (by omega) (by omega)]
  omega
theorem sb_nrem {w : Nat} (hw : w < 2 ^ 31) : (-nI (w / 100)) * 100 - (-nI w) = nI (w % 100) := by
  have h := pk_rem (a := w) (d := 100) hw (by decide) (by decide)
  rw [pk_div hw (by decide) (by decide)] at h
  rw [← h]
  show (-nI (w / 100)) * nI 100 - (-nI w) = nI w - nI (w / 100) * nI 100
  rw [Int32.neg_mul, Int32.sub_neg, Int32.add_comm, ← Int32.sub_eq_add_neg]
/-! rows on bits, shifts and unsigned numbers, to paste: each family out of a closed proof of our own, whole with what it rests on; each by itself clean at Lean in its own claim (generation 39, form 5). Take a family whole -/
/-! ===== Int32 by its bits: bt x i ===== -/
def bt (x : Int32) (i : Nat) : Bool := x.toBitVec.getLsbD i
theorem b_ext {x y : Int32} (h : ∀ i, i < 32 → bt x i = bt y i) : x = y := Int32.toBitVec_inj.mp (BitVec.eq_of_getLsbD_eq (fun i hi => h i hi))
theorem b_or (x y : Int32) (i : Nat) : bt (x ||| y) i = (bt x i || bt y i) := by unfold bt; rw [Int32.toBitVec_or, BitVec.getLsbD_or]
theorem b_and (x y : Int32) (i : Nat) : bt (x &&& y) i = (bt x i && bt y i) := by unfold bt; rw [Int32.toBitVec_and, BitVec.getLsbD_and]
theorem b_xor (x y : Int32) (i : Nat) : bt (x ^^^ y) i = (bt x i ^^ bt y i) := by unfold bt; rw [Int32.toBitVec_xor, BitVec.getLsbD_xor]
theorem b_big {x : Int32} {i : Nat} (h : 32 ≤ i) : bt x i = false := BitVec.getLsbD_of_ge _ _ h
theorem b_255 (i : Nat) : bt 255 i = decide (i < 8) := by
  rcases Nat.lt_or_ge i 32 with h | h
  · exact (by decide +kernel : ∀ i, i < 32 → bt 255 i = decide (i < 8)) i h
  · rw [b_big h, decide_eq_false (by omega)]
theorem b_65535 (i : Nat) : bt 65535 i = decide (i < 16) := by
  rcases Nat.lt_or_ge i 32 with h | h
  · exact (by decide +kernel : ∀ i, i < 32 → bt 65535 i = decide (i < 16)) i h
  · rw [b_big h, decide_eq_false (by omega)]
theorem b_m1 : ∀ i, i < 32 → bt (-1) i = true := by decide +kernel
theorem b_0 (i : Nat) : bt 0 i = false := BitVec.getLsbD_zero
theorem s_l : ∀ n, n < 32 → ((nI n &&& 31).toBitVec.smod 32).toNat = n := by decide +kernel
theorem s_u : ∀ n, n < 32 → (((nI n).toUInt32 &&& Int32.toUInt32 31).toBitVec % 32).toNat = n := by decide +kernel
theorem b_shl (n : Nat) (hn : n < 32) (x : Int32) {i : Nat} (hi : i < 32) : bt (x <<< (nI n &&& 31)) i = (decide (n ≤ i) && bt x (i - n)) := by
  unfold bt
  rw [Int32.toBitVec_shiftLeft]
  show (x.toBitVec <<< ((nI n &&& 31).toBitVec.smod 32).toNat).getLsbD i = _
  rw [s_l n hn, BitVec.getLsbD_shiftLeft]
  rcases Nat.lt_or_ge i n with h | h
  · simp [h, Nat.not_le.mpr h]
  · simp [hi, h, Nat.not_lt.mpr h]
theorem b_ushr (n : Nat) (hn : n < 32) (x : Int32) (i : Nat) : bt ((x.toUInt32 >>> ((nI n).toUInt32 &&& Int32.toUInt32 31)).toInt32) i = bt x (n + i) := by
  show (x.toUInt32 >>> ((nI n).toUInt32 &&& Int32.toUInt32 31)).toBitVec.getLsbD i = x.toUInt32.toBitVec.getLsbD (n + i)
  rw [UInt32.toBitVec_shiftRight]
  show (x.toUInt32.toBitVec >>> (((nI n).toUInt32 &&& Int32.toUInt32 31).toBitVec % 32).toNat).getLsbD i = _
  rw [s_u n hn, BitVec.getLsbD_ushiftRight]
theorem b_sshr (n : Nat) (hn : n < 32) (x : Int32) {i : Nat} (hi : i < 32) : bt (x >>> (nI n &&& 31)) i = if n + i < 32 then bt x (n + i) else bt x 31 := by
  unfold bt
  rw [Int32.toBitVec_shiftRight]
  show (x.toBitVec.sshiftRight ((nI n &&& 31).toBitVec.smod 32).toNat).getLsbD i = _
  rw [s_l n hn, BitVec.getLsbD_sshiftRight, BitVec.msb_eq_getLsbD_last]
  simp [hi]
theorem b_shl8 (x : Int32) {i : Nat} (hi : i < 32) : bt (x <<< ((8 : Int32) &&& 31)) i = (decide (8 ≤ i) && bt x (i - 8)) := b_shl 8 (by omega) x hi
theorem b_shl16 (x : Int32) {i : Nat} (hi : i < 32) : bt (x <<< ((16 : Int32) &&& 31)) i = (decide (16 ≤ i) && bt x (i - 16)) := b_shl 16 (by omega) x hi
theorem b_shl24 (x : Int32) {i : Nat} (hi : i < 32) : bt (x <<< ((24 : Int32) &&& 31)) i = (decide (24 ≤ i) && bt x (i - 24)) := b_shl 24 (by omega) x hi
theorem b_sshr8 (x : Int32) {i : Nat} (hi : i < 32) : bt (x >>> ((8 : Int32) &&& 31)) i = if 8 + i < 32 then bt x (8 + i) else bt x 31 := b_sshr 8 (by omega) x hi
/-! ===== nI under and, xor, >>>, one bit, 65535 ===== -/
theorem nx_and (a b : Nat) : nI a &&& nI b = nI (a &&& b) := by
  apply Int32.toBitVec_inj.1
  show BitVec.ofNat 32 a &&& BitVec.ofNat 32 b = BitVec.ofNat 32 (a &&& b)
  apply BitVec.eq_of_getLsbD_eq
  intro i hi
  simp [hi]
theorem nx_xor (a b : Nat) : nI a ^^^ nI b = nI (a ^^^ b) := by
  apply Int32.toBitVec_inj.1
  show BitVec.ofNat 32 a ^^^ BitVec.ofNat 32 b = BitVec.ofNat 32 (a ^^^ b)
  apply BitVec.eq_of_getLsbD_eq
  intro i hi
  simp [hi]
theorem nx_cnt : ∀ j : Fin 32, (UInt32.ofNat j.val &&& Int32.toUInt32 31).toNat % 32 = j.val := by decide +kernel
theorem nx_ush {k j : Nat} (hk : k < 65536) (hj : j < 32) : ((nI k).toUInt32 >>> ((nI j).toUInt32 &&& Int32.toUInt32 31)).toInt32 = nI (k >>> j) := by
  have hs : k >>> j ≤ k := by
    rw [Nat.shiftRight_eq_div_pow]
    exact Nat.div_le_self _ _
  have e2 : UInt32.ofNat k >>> (UInt32.ofNat j &&& Int32.toUInt32 31) = UInt32.ofNat (k >>> j) := by
    apply UInt32.toNat_inj.1
    have h1 : (UInt32.ofNat k).toNat = k := Nat.mod_eq_of_lt (by omega)
    have h2 : (UInt32.ofNat (k >>> j)).toNat = k >>> j := Nat.mod_eq_of_lt (by omega)
    rw [UInt32.toNat_shiftRight, nx_cnt ⟨j, hj⟩, h1, h2]
  show (UInt32.ofNat k >>> (UInt32.ofNat j &&& Int32.toUInt32 31)).toInt32 = _
  rw [e2]
  rfl
theorem nx_bit {k j : Nat} (hk : k < 65536) (hj : j < 16) : (((nI k).toUInt32 >>> ((nI j).toUInt32 &&& Int32.toUInt32 31)).toInt32 &&& 1) = 0 ↔ k.testBit j = false := by
  rw [nx_ush hk (by omega)]
  show nI (k >>> j) &&& nI 1 = 0 ↔ _
  rw [nx_and, Nat.and_one_is_mod, ← nI_0, nI_eq (by omega) (by omega), Nat.testBit_eq_decide_div_mod_eq, Nat.shiftRight_eq_div_pow, decide_eq_false_iff_not]
  generalize k / 2 ^ j = z
  omega
theorem nx_mod (k : Nat) : nI k &&& 65535 = nI (k % 65536) := by
  show nI k &&& nI 65535 = _
  rw [nx_and, show (65535 : Nat) = 2 ^ 16 - 1 from rfl, Nat.and_two_pow_sub_one_eq_mod]
theorem nx_m16 {k : Nat} (h : k < 65536) : nI k &&& 65535 = nI k := by rw [nx_mod, Nat.mod_eq_of_lt h]
theorem nx_mask (x : Int32) : ∃ k, k < 65536 ∧ x &&& 65535 = nI k := by
  have e : x = nI x.toBitVec.toNat := by
    apply Int32.toBitVec_inj.1
    show x.toBitVec = BitVec.ofNat 32 x.toBitVec.toNat
    simp
  refine ⟨x.toBitVec.toNat % 65536, Nat.mod_lt _ (by omega), ?_⟩
  rw [← nx_mod, ← e]
/-! ===== Int32 as a set of bits: test, set ===== -/
def nf_M (m : Int32) : Nat := 4294967296 - m.toBitVec.toNat
theorem nf_sh : ∀ l, l < 32 → ((1 : Int32) <<< (nI l &&& 31)).toBitVec = BitVec.twoPow 32 l := by decide +kernel
theorem nf_sl : ∀ l, l < 32 → (((nI l).toUInt32 &&& Int32.toUInt32 31).toBitVec % 32).toNat = l := by decide +kernel
theorem nf_tp : ∀ l, l < 32 → BitVec.twoPow 32 l ≠ 0#32 := by decide +kernel
theorem nf_bit (m : Int32) (l : Nat) (hl : l < 32) : ((m.toUInt32 >>> ((nI l).toUInt32 &&& Int32.toUInt32 31)).toInt32 &&& 1) = 0 ↔ (m &&& ((1 : Int32) <<< (nI l &&& 31))) = 0 := by
  have e : ((m.toUInt32 >>> ((nI l).toUInt32 &&& Int32.toUInt32 31)).toInt32).toBitVec = m.toBitVec >>> l := by
    show m.toBitVec >>> (((nI l).toUInt32 &&& Int32.toUInt32 31).toBitVec % 32) = m.toBitVec >>> l
    rw [BitVec.ushiftRight_eq', nf_sl l hl]
  rw [← Int32.toBitVec_inj, ← Int32.toBitVec_inj, Int32.toBitVec_and, Int32.toBitVec_and, nf_sh l hl, e, BitVec.and_twoPow]
  show (m.toBitVec >>> l &&& 1#32) = 0#32 ↔ _ = 0#32
  rw [BitVec.and_one_eq_setWidth_ofBool_getLsbD, BitVec.getLsbD_ushiftRight, Nat.add_zero]
  cases hb : m.toBitVec.getLsbD l
  · exact ⟨fun _ => by simp, fun _ => by decide⟩
  · exact ⟨fun z => absurd z (by decide), fun z => absurd ((if_pos rfl).symm.trans z) (nf_tp l hl)⟩
theorem nf_gr (m k : Int32) (h : m &&& k = 0) (hk : k ≠ 0) : nf_M (m ||| k) < nf_M m := by
  have hm := m.toBitVec.isLt
  have hm' := (m ||| k).toBitVec.isLt
  have h1 : m.toBitVec.toNat ≤ (m ||| k).toBitVec.toNat := by
    rw [Int32.toBitVec_or, BitVec.toNat_or]
    exact Nat.left_le_or
  have h2 : m.toBitVec.toNat ≠ (m ||| k).toBitVec.toNat := by
    intro e
    have e2 : m = m ||| k := Int32.toBitVec_inj.mp (BitVec.eq_of_toNat_eq e)
    apply hk
    apply Int32.toBitVec_inj.mp
    show k.toBitVec = 0#32
    apply BitVec.eq_of_getLsbD_eq
    intro i hi
    have a : m.toBitVec.getLsbD i = (m.toBitVec.getLsbD i || k.toBitVec.getLsbD i) := by rw [← BitVec.getLsbD_or, ← Int32.toBitVec_or, ← e2]
    have b : (m.toBitVec.getLsbD i && k.toBitVec.getLsbD i) = false := by
      rw [← BitVec.getLsbD_and, ← Int32.toBitVec_and, h]
      exact BitVec.getLsbD_zero
    rw [BitVec.getLsbD_zero]
    revert a b
    cases m.toBitVec.getLsbD i <;> cases k.toBitVec.getLsbD i <;> simp
  unfold nf_M
  omega
/-! ===== a byte read unsigned ===== -/
theorem bp_b (x : Int32) : x.toInt8.toInt32 &&& 255 = x &&& 255 := by
  apply Int32.toBitVec_inj.mp
  rw [Int32.toBitVec_and, Int32.toBitVec_and, Int8.toBitVec_toInt32, Int32.toBitVec_toInt8]
  apply BitVec.eq_of_getLsbD_eq
  intro i hi
  rw [BitVec.getLsbD_and, BitVec.getLsbD_and]
  have hm : ∀ i < 32, 8 ≤ i → (255 : Int32).toBitVec.getLsbD i = false := by decide
  rcases Nat.lt_or_ge i 8 with z | z
  · rw [BitVec.getLsbD_signExtend, BitVec.getLsbD_signExtend, if_pos z, if_pos hi]
    simp only [z, hi, decide_true, Bool.true_and]
  · rw [hm i hi z]; simp
/-! ===== the char cast and 65535 ===== -/
theorem em_w (v : Int32) : ∃ w : Nat, w < 65536 ∧ (v.toUInt32 % 65536).toInt32 = nI w ∧ v &&& 65535 = nI w := by
  have hr := lw_u16_r v
  have h0 : (0 : Int32).toInt = 0 := by decide
  obtain ⟨w, h1, h2⟩ := nI_of (x := lw_u16 v) (by rw [Int32.lt_iff_toInt_lt]; omega)
  have h3 : (v.toUInt32 % 65536).toInt32 = nI w := h2
  rw [h2, nI_toInt h1] at hr
  exact ⟨w, by omega, h3, by rw [← lg_i2c_mask, ← lg_i2c_nf, h3]⟩
/-! ===== Int64 as a set of bits: test, set, clear ===== -/
theorem ts_nf {x : Bool} (h : ¬ x = false) : x = true := by cases x <;> first | rfl | exact absurd rfl h
theorem ts_nt {x : Bool} (h : ¬ x = true) : x = false := by cases x <;> first | rfl | exact absurd rfl h
theorem ts_bit {w : Int64} {s : UInt64} {j : Nat} (hj : j < 64) (hs : s.toNat = j) : ((w.toUInt64 >>> s).toInt64 &&& 1) = 0 ↔ w.toBitVec.getLsbD j = false := by
  have e : (w.toUInt64 >>> s).toInt64.toBitVec = w.toBitVec >>> j := by
    apply BitVec.eq_of_toNat_eq
    show (w.toUInt64 >>> s).toNat = _
    rw [UInt64.toNat_shiftRight, hs, Nat.mod_eq_of_lt hj, BitVec.toNat_ushiftRight]
    rfl
  rw [← Int64.toBitVec_inj, Int64.toBitVec_and, e]
  show w.toBitVec >>> j &&& 1#64 = 0#64 ↔ _
  constructor
  · intro h
    have t := congrArg (fun x => x.getLsbD 0) h
    simpa using t
  · intro h
    apply BitVec.eq_of_getLsbD_eq
    intro i hi
    cases i with
    | zero => simp [h]
    | succ i => simp
theorem ts_or {w m : Int64} {j : Nat} (hj : j < 64) (hm : m.toBitVec = BitVec.twoPow 64 j) : (w ||| m) = w ↔ w.toBitVec.getLsbD j = true := by
  rw [← Int64.toBitVec_inj, Int64.toBitVec_or, hm]
  constructor
  · intro h
    have t := congrArg (fun x => x.getLsbD j) h
    simp only [BitVec.getLsbD_or, BitVec.getLsbD_twoPow] at t
    simpa [hj] using t.symm
  · intro h
    apply BitVec.eq_of_getLsbD_eq
    intro i hi
    rw [BitVec.getLsbD_or, BitVec.getLsbD_twoPow]
    by_cases e : j = i
    · subst e; rw [h, Bool.true_or]
    · simp [e]
theorem ts_and {w m : Int64} {j : Nat} (hj : j < 64) (hm : m.toBitVec = BitVec.twoPow 64 j) : (w &&& (m ^^^ (-1))) = w ↔ w.toBitVec.getLsbD j = false := by
  have ha : (-1 : Int64).toBitVec = BitVec.allOnes 64 := by decide
  rw [← Int64.toBitVec_inj, Int64.toBitVec_and, Int64.toBitVec_xor, hm, ha]
  constructor
  · intro h
    have t := congrArg (fun x => x.getLsbD j) h
    simp only [BitVec.getLsbD_and, BitVec.getLsbD_xor, BitVec.getLsbD_twoPow, BitVec.getLsbD_allOnes] at t
    simpa [hj] using t.symm
  · intro h
    apply BitVec.eq_of_getLsbD_eq
    intro i hi
    rw [BitVec.getLsbD_and, BitVec.getLsbD_xor, BitVec.getLsbD_twoPow, BitVec.getLsbD_allOnes]
    by_cases e : j = i
    · subst e; rw [h, Bool.false_and]
    · simp [e, hi]
/-! ===== lN n to 2^64: shifts, and, or, masks, one bit ===== -/
theorem wb_tb (n : Nat) : (lN n).toBitVec = BitVec.ofNat 64 n := rfl
theorem wb_inj {a b : Int64} (h : a.toBitVec = b.toBitVec) : a = b := Int64.toBitVec_inj.mp h
theorem wb_tn {n : Nat} (h : n < 2 ^ 64) : (lN n).toBitVec.toNat = n := by rw [wb_tb, BitVec.toNat_ofNat, Nat.mod_eq_of_lt h]
theorem wb_of (x : Int64) : ∃ n, n < 2 ^ 64 ∧ x = lN n := ⟨x.toBitVec.toNat, x.toBitVec.isLt, wb_inj (by rw [wb_tb]; simp)⟩
theorem wb_of32 (x : Int32) : ∃ n, n < 2 ^ 32 ∧ x = nI n := ⟨x.toBitVec.toNat, x.toBitVec.isLt, Int32.toBitVec_inj.mp (by show _ = BitVec.ofNat 32 _; simp)⟩
theorem wb_c : ∀ k, k < 64 → ((nI k).toInt64 &&& 63) = lN k := by decide +kernel
theorem wb_cu : ∀ k, k < 64 → ((nI k).toInt64.toUInt64 &&& Int64.toUInt64 63) = UInt64.ofNat k := by decide +kernel
theorem wb_sm : ∀ k, k < 64 → (BitVec.ofNat 64 k).smod 64 = BitVec.ofNat 64 k := by decide +kernel
theorem wb_pw {a b : Nat} (h : a ≤ b) : 2 ^ b = 2 ^ a * 2 ^ (b - a) := by rw [← Nat.pow_add]; congr 1; omega
theorem wb_lt2 {a b : Nat} (h : a < b) : 2 ^ a < 2 ^ b := Nat.pow_lt_pow_right (by decide) h
theorem wb_mod (n : Nat) : lN n = lN (n % 2 ^ 64) := wb_inj (by rw [wb_tb, wb_tb]; apply BitVec.eq_of_toNat_eq; rw [BitVec.toNat_ofNat, BitVec.toNat_ofNat, Nat.mod_mod])
theorem wb_shr {n k : Nat} (hn : n < 2 ^ 64) (hk : k < 64) : ((lN n).toUInt64 >>> ((nI k).toInt64.toUInt64 &&& Int64.toUInt64 63)).toInt64 = lN (n / 2 ^ k) := by
  rw [wb_cu k hk]
  apply wb_inj
  apply BitVec.eq_of_toNat_eq
  show ((lN n).toUInt64 >>> UInt64.ofNat k).toNat = (BitVec.ofNat 64 _).toNat
  have h1 : (UInt64.ofNat k).toNat = k := by
    show (BitVec.ofNat 64 k).toNat = k
    rw [BitVec.toNat_ofNat, Nat.mod_eq_of_lt (by omega)]
  have h2 : (lN n).toUInt64.toNat = n := wb_tn hn
  rw [UInt64.toNat_shiftRight, h1, h2, Nat.mod_eq_of_lt hk, Nat.shiftRight_eq_div_pow, BitVec.toNat_ofNat, Nat.mod_eq_of_lt (Nat.lt_of_le_of_lt (Nat.div_le_self _ _) hn)]
theorem wb_shl (n : Nat) {k : Nat} (hk : k < 64) : lN n <<< ((nI k).toInt64 &&& 63) = lN (n * 2 ^ k) := by
  rw [wb_c k hk]
  apply wb_inj
  rw [Int64.toBitVec_shiftLeft, wb_tb, wb_tb, wb_tb, wb_sm k hk]
  apply BitVec.eq_of_toNat_eq
  rw [BitVec.shiftLeft_eq', BitVec.toNat_shiftLeft, BitVec.toNat_ofNat, BitVec.toNat_ofNat, BitVec.toNat_ofNat, Nat.mod_eq_of_lt (show k < 2 ^ 64 by omega), Nat.shiftLeft_eq, Nat.mul_mod, Nat.mod_mod, ← Nat.mul_mod]
theorem wb_and {a b : Nat} (ha : a < 2 ^ 64) (hb : b < 2 ^ 64) : lN a &&& lN b = lN (a &&& b) := by
  apply wb_inj
  rw [Int64.toBitVec_and, wb_tb, wb_tb, wb_tb]
  apply BitVec.eq_of_toNat_eq
  rw [BitVec.toNat_and, BitVec.toNat_ofNat, BitVec.toNat_ofNat, BitVec.toNat_ofNat, Nat.mod_eq_of_lt ha, Nat.mod_eq_of_lt hb, Nat.mod_eq_of_lt (Nat.and_lt_two_pow _ hb)]
theorem wb_or {a b : Nat} (ha : a < 2 ^ 64) (hb : b < 2 ^ 64) : lN a ||| lN b = lN (a ||| b) := by
  apply wb_inj
  rw [Int64.toBitVec_or, wb_tb, wb_tb, wb_tb]
  apply BitVec.eq_of_toNat_eq
  rw [BitVec.toNat_or, BitVec.toNat_ofNat, BitVec.toNat_ofNat, BitVec.toNat_ofNat, Nat.mod_eq_of_lt ha, Nat.mod_eq_of_lt hb, Nat.mod_eq_of_lt (Nat.or_lt_two_pow ha hb)]
theorem wb_mask {n k : Nat} (hn : n < 2 ^ 64) (hk : k < 64) : lN n &&& lN (2 ^ k - 1) = lN (n % 2 ^ k) := by
  rw [wb_and hn (by have := wb_lt2 hk; omega), Nat.and_two_pow_sub_one_eq_mod]
theorem wb_a1 {n : Nat} (hn : n < 2 ^ 64) : lN n &&& 1 = lN (n % 2) := wb_mask (k := 1) hn (by decide)
theorem wb_bit {n k : Nat} (hn : n < 2 ^ 64) (hk : k < 64) : ((lN n).toUInt64 >>> ((nI k).toInt64.toUInt64 &&& Int64.toUInt64 63)).toInt64 &&& 1 = lN (n / 2 ^ k % 2) := by
  rw [wb_shr hn hk, wb_a1 (Nat.lt_of_le_of_lt (Nat.div_le_self _ _) hn)]
theorem wb_xor {q k : Nat} (hk : k < 63) (h : 2 ^ k ≤ q) (h2 : q < 2 ^ (k + 1)) : lN q ^^^ lN (2 ^ k) = lN (q - 2 ^ k) := by
  obtain ⟨r, rfl⟩ : ∃ r, q = 2 ^ k + r := ⟨q - 2 ^ k, by omega⟩
  have hr : r < 2 ^ k := by rw [Nat.pow_succ] at h2; omega
  have hx : (2 ^ k + r) ^^^ 2 ^ k = r := by
    apply Nat.eq_of_testBit_eq
    intro i
    rw [Nat.testBit_xor, Nat.testBit_two_pow]
    rcases Nat.lt_trichotomy i k with h | h | h
    · rw [Nat.testBit_two_pow_add_gt h]
      simp [show ¬ k = i by omega]
    · subst h
      rw [Nat.testBit_two_pow_add_eq]
      simp
    · have a1 : 2 ^ (k + 1) ≤ 2 ^ i := Nat.pow_le_pow_right (by decide) h
      rw [Nat.testBit_lt_two_pow (show 2 ^ k + r < 2 ^ i by omega), Nat.testBit_lt_two_pow (show r < 2 ^ i by omega)]
      simp [show ¬ k = i by omega]
  have b1 := wb_lt2 (show k + 1 < 64 by omega)
  have b2 := wb_lt2 (show k < 64 by omega)
  apply wb_inj
  rw [Int64.toBitVec_xor, wb_tb, wb_tb, wb_tb]
  apply BitVec.eq_of_toNat_eq
  rw [BitVec.toNat_xor, BitVec.toNat_ofNat, BitVec.toNat_ofNat, BitVec.toNat_ofNat, Nat.mod_eq_of_lt (by omega : 2 ^ k + r < 2 ^ 64), Nat.mod_eq_of_lt b2, hx, Nat.add_sub_cancel_left, Nat.mod_eq_of_lt (by omega)]
/-! ===== lN: masks, 'or' of parts that don't overlap is a sum ===== -/
theorem u_tn {n : Nat} (h : n < 2 ^ 64) : (UInt64.ofNat n).toNat = n := Nat.mod_eq_of_lt h
theorem g_and {a b c : Nat} (ha : a < 2 ^ 64) (hb : b < 2 ^ 64) (hc : a &&& b = c) : lN a &&& lN b = lN c := by
  subst hc
  have h : UInt64.ofNat a &&& UInt64.ofNat b = UInt64.ofNat (a &&& b) := UInt64.toNat_inj.mp (by rw [UInt64.toNat_and, u_tn ha, u_tn hb, u_tn (Nat.and_lt_two_pow a hb)])
  have h2 := congrArg UInt64.toInt64 h
  exact h2
theorem g_and1 {a : Nat} (ha : a < 2 ^ 64) : lN a &&& 1 = lN (a % 2) := g_and (b := 1) ha (by decide) (Nat.and_two_pow_sub_one_eq_mod a 1)
theorem g_mask {a s p : Nat} (hp : 2 ^ s = p) (hs : s < 64) (ha : a < 2 ^ 64) : lN a &&& lN (p - 1) = lN (a % p) := by
  subst hp
  have := Nat.pow_lt_pow_right (show 1 < 2 by decide) hs
  exact g_and ha (by omega) (Nat.and_two_pow_sub_one_eq_mod a s)
theorem g_or {k p a b : Nat} (hp : 2 ^ k = p) (ha : a < p) (h : b * p + a < 2 ^ 64) : lN (b * p) ||| lN a = lN (b * p + a) := by
  subst hp
  have h1 : b * 2 ^ k ||| a = b * 2 ^ k + a := by rw [← Nat.shiftLeft_eq, Nat.shiftLeft_add_eq_or_of_lt ha]
  have h3 : UInt64.ofNat (b * 2 ^ k) ||| UInt64.ofNat a = UInt64.ofNat (b * 2 ^ k + a) := UInt64.toNat_inj.mp (by rw [UInt64.toNat_or, u_tn (by omega), u_tn (by omega), u_tn h, h1])
  have h2 := congrArg UInt64.toInt64 h3
  exact h2
theorem g_or' {k p a b : Nat} (hp : 2 ^ k = p) (ha : a < p) (h : a + b * p < 2 ^ 64) : lN a ||| lN (b * p) = lN (a + b * p) := by
  rw [Int64.or_comm, g_or hp ha (by omega), Nat.add_comm]
theorem g_ushr {a k p : Nat} {y : UInt64} (hy : y = UInt64.ofNat k) (hk : k < 64) (hp : 2 ^ k = p) (ha : a < 2 ^ 64) : ((lN a).toUInt64 >>> y).toInt64 = lN (a / p) := by
  subst hy hp
  have h : UInt64.ofNat a >>> UInt64.ofNat k = UInt64.ofNat (a / 2 ^ k) := UInt64.toNat_inj.mp (by rw [UInt64.toNat_shiftRight, u_tn ha, u_tn (by omega), u_tn (Nat.lt_of_le_of_lt (Nat.div_le_self _ _) ha), Nat.mod_eq_of_lt hk, Nat.shiftRight_eq_div_pow])
  have h2 := congrArg UInt64.toInt64 h
  exact h2
theorem g_shl {a k p : Nat} {y : Int64} (hy : y.toBitVec.smod 64 = BitVec.ofNat 64 k) (hk : k < 64) (hp : 2 ^ k = p) (ha : a < 2 ^ 64) : lN a <<< y = lN (a * p) := by
  subst hp
  apply Int64.toBitVec_inj.mp
  rw [Int64.toBitVec_shiftLeft, hy]
  apply BitVec.eq_of_toNat_eq
  have hb : (lN a).toBitVec.toNat = a := Nat.mod_eq_of_lt ha
  have hk' : (BitVec.ofNat 64 k).toNat = k := Nat.mod_eq_of_lt (by omega)
  have h : ((lN a).toBitVec <<< BitVec.ofNat 64 k).toNat = (a * 2 ^ k) % 2 ^ 64 := by simp only [BitVec.shiftLeft_eq', BitVec.toNat_shiftLeft, hb, hk', Nat.shiftLeft_eq]
  exact h
/-! ===== lN to 2^62 under >> and >>> ===== -/
theorem pf_lI {a : Nat} (h : a < 2 ^ 63) : (lN a).toInt = (a : Int) := lg_ofNat_toInt h
theorem pf_shr {a d : Nat} {D : Int64} (hD : (D.toBitVec.smod 64).toNat = d) (h : a < 2 ^ 62) : lN a >>> D = lN (a / 2 ^ d) := by
  have hd : a / 2 ^ d ≤ a := Nat.div_le_self _ _
  apply Int64.toInt_inj.mp
  have e : (lN a >>> D).toInt = (lN a).toInt >>> d := by
    rw [← hD]
    exact BitVec.toInt_sshiftRight ..
  rw [e, Int.shiftRight_eq_div_pow, pf_lI (by omega), pf_lI (by omega)]
  rfl
theorem pf_ushr {a d : Nat} {D : UInt64} (hD : D.toNat % 64 = d) (h : a < 2 ^ 62) : ((lN a).toUInt64 >>> D).toInt64 = lN (a / 2 ^ d) := by
  have hd : a / 2 ^ d ≤ a := Nat.div_le_self _ _
  have e : (lN a).toUInt64 >>> D = UInt64.ofNat (a / 2 ^ d) := UInt64.toNat_inj.mp (by
    rw [UInt64.toNat_shiftRight, hD, Nat.shiftRight_eq_div_pow, UInt64.toNat_ofNat']
    show (UInt64.ofNat a).toNat / 2 ^ d = _
    rw [UInt64.toNat_ofNat', Nat.mod_eq_of_lt (by omega), Nat.mod_eq_of_lt (by omega)])
  rw [e]
  rfl
theorem pf_andw (x : Int64) : ∃ m, m < 2 ^ 32 ∧ x &&& 4294967295 = lN m := ⟨x.toBitVec.toNat % 2 ^ 32, Nat.mod_lt _ (by decide), Int64.toBitVec_inj.mp (BitVec.eq_of_toNat_eq (by
  show (x.toBitVec &&& 4294967295#64).toNat = (BitVec.ofNat 64 (x.toBitVec.toNat % 2 ^ 32)).toNat
  rw [BitVec.toNat_and, show (4294967295#64).toNat = 2 ^ 32 - 1 from by decide, Nat.and_two_pow_sub_one_eq_mod, BitVec.toNat_ofNat]
  omega))⟩
/-! ===== Int64 as an unsigned number: uN x ===== -/
def uN (x : Int64) : Nat := x.toUInt64.toNat
theorem uN_lt (x : Int64) : uN x < 18446744073709551616 := x.toUInt64.toNat_lt
theorem uN_inj {x y : Int64} (h : uN x = uN y) : x = y := congrArg UInt64.toInt64 (UInt64.toNat_inj.mp h)
theorem uN_add (x y : Int64) : uN (x + y) = (uN x + uN y) % 18446744073709551616 := by
  show (x.toUInt64 + y.toUInt64).toNat = _
  exact UInt64.toNat_add _ _
theorem uN_mul (x y : Int64) : uN (x * y) = (uN x * uN y) % 18446744073709551616 := by
  show (x.toUInt64 * y.toUInt64).toNat = _
  exact UInt64.toNat_mul _ _
theorem uN_shl (x : Int64) : uN (x <<< ((1 : Int32).toInt64 &&& 63)) = (2 * uN x) % 18446744073709551616 := by
  have h : (((1 : Int32).toInt64 &&& 63).toBitVec.smod 64).toNat = 1 := by decide
  show (x.toBitVec <<< (((1 : Int32).toInt64 &&& 63).toBitVec.smod 64).toNat).toNat = _
  rw [h, BitVec.toNat_shiftLeft, Nat.shiftLeft_eq, Nat.mul_comm]
  rfl
theorem uN_shr (x : Int64) (s : UInt64) : uN (x.toUInt64 >>> s).toInt64 = uN x / 2 ^ (s.toNat % 64) := by
  show (x.toUInt64 >>> s).toNat = _
  rw [UInt64.toNat_shiftRight, Nat.shiftRight_eq_div_pow]
  rfl
theorem uN_s32 (x : Int64) : uN (x.toUInt64 >>> ((32 : Int32).toInt64.toUInt64 &&& Int64.toUInt64 63)).toInt64 = uN x / 4294967296 := by
  have h : ((32 : Int32).toInt64.toUInt64 &&& Int64.toUInt64 63).toNat % 64 = 32 := by decide
  rw [uN_shr, h]
theorem uN_s63 (x : Int64) : uN (x.toUInt64 >>> ((63 : Int32).toInt64.toUInt64 &&& Int64.toUInt64 63)).toInt64 = uN x / 9223372036854775808 := by
  have h : ((63 : Int32).toInt64.toUInt64 &&& Int64.toUInt64 63).toNat % 64 = 63 := by decide
  rw [uN_shr, h]
theorem uN_lo (x : Int64) : uN (x &&& 4294967295) = uN x % 4294967296 := by
  show (x.toUInt64 &&& Int64.toUInt64 4294967295).toNat = _
  rw [UInt64.toNat_and]
  exact Nat.and_two_pow_sub_one_eq_mod _ 32
theorem uN_bit (x : Int64) : (x &&& 1) = 0 ↔ uN x % 2 = 0 := by
  have h : uN (x &&& 1) = uN x % 2 := by
    show (x.toUInt64 &&& Int64.toUInt64 1).toNat = _
    rw [UInt64.toNat_and]
    exact Nat.and_two_pow_sub_one_eq_mod _ 1
  rw [← h]
  exact ⟨fun z => by rw [z]; rfl, fun z => uN_inj (z.trans rfl)⟩
theorem uN_or {x y : Int64} (hy : uN y < 2) : uN ((x <<< ((1 : Int32).toInt64 &&& 63)) ||| y) = (2 * uN x) % 18446744073709551616 + uN y := by
  have h1 : uN ((x <<< ((1 : Int32).toInt64 &&& 63)) ||| y) = uN (x <<< ((1 : Int32).toInt64 &&& 63)) ||| uN y := UInt64.toNat_or _ _
  have h2 : (2 * uN x) % 18446744073709551616 = 2 ^ 1 * (uN x % 9223372036854775808) := by omega
  rw [h1, uN_shl, h2]
  exact (Nat.two_pow_add_eq_or_of_lt (i := 1) hy _).symm
theorem nat_xor {a : Nat} (h : a < 18446744073709551616) : a ^^^ 2 ^ 63 = (a + 9223372036854775808) % 18446744073709551616 := by
  have h1 : (a ^^^ 2 ^ 63) % 2 ^ 63 = a % 2 ^ 63 := by rw [Nat.xor_mod_two_pow, Nat.mod_self, Nat.xor_zero]
  have h2 : (a ^^^ 2 ^ 63) / 2 ^ 63 = (a / 2 ^ 63) ^^^ 1 := by rw [Nat.xor_div_two_pow, Nat.div_self (Nat.two_pow_pos 63)]
  have h3 : a / 2 ^ 63 = 0 ∨ a / 2 ^ 63 = 1 := by omega
  generalize a ^^^ 2 ^ 63 = t at h1 h2
  rcases h3 with h3 | h3
  · rw [h3] at h2
    have h2 : t / 2 ^ 63 = 1 := h2
    omega
  · rw [h3] at h2
    have h2 : t / 2 ^ 63 = 0 := h2
    omega
theorem uN_xor (x : Int64) : uN (x ^^^ (-9223372036854775808)) = (uN x + 9223372036854775808) % 18446744073709551616 := by
  rw [← nat_xor (uN_lt x)]
  exact UInt64.toNat_xor _ _
theorem uN_int (x : Int64) : x.toInt = if 2 * uN x < 18446744073709551616 then (uN x : Int) else (uN x : Int) - 18446744073709551616 := BitVec.toInt_eq_toNat_cond _
theorem uN_le (x y : Int64) : (x ^^^ (-9223372036854775808)) ≤ (y ^^^ (-9223372036854775808)) ↔ uN x ≤ uN y := by
  have hx := uN_lt x
  have hy := uN_lt y
  rw [Int64.le_iff_toInt_le, uN_int, uN_int, uN_xor, uN_xor]
  omega
theorem uN_sk (x : Int64) {k : Nat} (hk : k < 64) : uN (x.toUInt64 >>> ((nI k).toInt64.toUInt64 &&& Int64.toUInt64 63)).toInt64 = uN x / 2 ^ k := by
  have h : ((nI k).toInt64.toUInt64 &&& Int64.toUInt64 63).toNat % 64 = k := by
    rw [nI_l (by omega), UInt64.toNat_and]
    have e : (lN k).toUInt64.toNat = k % 2 ^ 64 := rfl
    have e2 : (Int64.toUInt64 63).toNat = 2 ^ 6 - 1 := by decide
    rw [e, e2, Nat.and_two_pow_sub_one_eq_mod]
    omega
  rw [uN_shr, h]
/-! ===== unsigned comparison by xor with the least ===== -/
theorem lN_bv (n : Nat) : (lN n).toBitVec = BitVec.ofNat 64 n := rfl
theorem lN_nat {n : Nat} (h : n < 2 ^ 64) : (lN n).toBitVec.toNat = n := by rw [lN_bv, BitVec.toNat_ofNat]; exact Nat.mod_eq_of_lt h
theorem lN_xor (a b : Nat) : lN a ^^^ lN b = lN (a ^^^ b) := by
  apply Int64.toBitVec_inj.mp; rw [Int64.toBitVec_xor, lN_bv, lN_bv, lN_bv]; apply BitVec.eq_of_getLsbD_eq; intro i hi; simp [BitVec.getLsbD_ofNat, Nat.testBit_xor, hi]
theorem lN_ti {m : Nat} (h : m < 2 ^ 64) : (lN m).toInt = if m < 2 ^ 63 then (m : Int) else (m : Int) - 2 ^ 64 := by
  have c := BitVec.toInt_eq_toNat_cond (lN m).toBitVec
  rw [lN_nat h] at c
  show (lN m).toBitVec.toInt = _
  rw [c]
  split <;> split <;> omega
theorem xor63 {x : Nat} (h : x < 2 ^ 63) : x ^^^ 2 ^ 63 = 2 ^ 63 + x := by
  apply Nat.eq_of_testBit_eq
  intro i
  rw [Nat.testBit_xor, Nat.testBit_two_pow]
  rcases Nat.lt_trichotomy i 63 with z | z | z
  · rw [Nat.testBit_two_pow_add_gt z, decide_eq_false (by omega)]; simp
  · subst z; rw [Nat.testBit_two_pow_add_eq]; simp
  · have hp : 2 ^ 64 ≤ 2 ^ i := Nat.pow_le_pow_right (by decide) z
    rw [Nat.testBit_lt_two_pow (show x < 2 ^ i by omega), Nat.testBit_lt_two_pow (show 2 ^ 63 + x < 2 ^ i by omega), decide_eq_false (by omega)]; rfl
theorem xorS {a : Nat} (h : a < 2 ^ 64) : (lN a ^^^ (-9223372036854775808)).toInt = (a : Int) - 2 ^ 63 := by
  rw [show (-9223372036854775808 : Int64) = lN (2 ^ 63) from by decide +kernel, lN_xor]
  rcases Nat.lt_or_ge a (2 ^ 63) with z | z
  · rw [xor63 z, lN_ti (by omega), if_neg (by omega)]; omega
  · obtain ⟨x, rfl⟩ : ∃ x, a = 2 ^ 63 + x := ⟨a - 2 ^ 63, by omega⟩
    rw [← xor63 (by omega), Nat.xor_assoc, Nat.xor_self, Nat.xor_zero, lN_ti (by omega), if_pos (by omega), xor63 (by omega)]; omega
theorem ultL {a b : Nat} (ha : a < 2 ^ 64) (hb : b < 2 ^ 64) : ((lN b ^^^ (-9223372036854775808)) ≤ (lN a ^^^ (-9223372036854775808))) ↔ b ≤ a := by
  rw [Int64.le_iff_toInt_le, xorS ha, xorS hb]; omega
/-! ===== Int64 masks of n low bits ===== -/
theorem cr_bits (W U M : BitVec 64) : ((W &&& U) &&& (U &&& (M ^^^ BitVec.allOnes 64))) = 0#64 ↔ (W &&& U) &&& M = W &&& U := by
  constructor
  · intro h
    apply BitVec.eq_of_getLsbD_eq
    intro i hi
    have e := congrArg (fun x => BitVec.getLsbD x i) h
    simp only [BitVec.getLsbD_and, BitVec.getLsbD_xor, BitVec.getLsbD_allOnes, BitVec.getLsbD_zero, hi, decide_true] at e ⊢
    revert e
    cases W.getLsbD i <;> cases U.getLsbD i <;> cases M.getLsbD i <;> decide
  · intro h
    apply BitVec.eq_of_getLsbD_eq
    intro i hi
    have e := congrArg (fun x => BitVec.getLsbD x i) h
    simp only [BitVec.getLsbD_and, BitVec.getLsbD_xor, BitVec.getLsbD_allOnes, BitVec.getLsbD_zero, hi, decide_true] at e ⊢
    revert e
    cases W.getLsbD i <;> cases U.getLsbD i <;> cases M.getLsbD i <;> decide
theorem cr_mask (w U m : Int64) (n : Nat) (hm : m.toBitVec.toNat = 2 ^ n - 1) : ((w &&& U) &&& (U &&& (m ^^^ (-1)))) = 0 ↔ (w &&& U).toBitVec.toNat < 2 ^ n := by
  have e0 : (-1 : Int64).toBitVec = BitVec.allOnes 64 := by decide
  have z0 : (0 : Int64).toBitVec = 0#64 := by decide
  rw [← Int64.toBitVec_inj, z0, Int64.toBitVec_and, Int64.toBitVec_and, Int64.toBitVec_and, Int64.toBitVec_xor, e0, cr_bits]
  generalize w.toBitVec &&& U.toBitVec = T
  rw [← BitVec.toNat_inj, BitVec.toNat_and, hm, Nat.and_two_pow_sub_one_eq_mod]
  constructor
  · intro h
    have t := Nat.mod_lt T.toNat (Nat.two_pow_pos n)
    rw [h] at t
    exact t
  · exact Nat.mod_eq_of_lt
theorem cr_shr (t : Int64) (x : UInt64) (n : Nat) (hx : x.toNat % 64 = n) : (t.toUInt64 >>> x).toInt64 = 0 ↔ t.toBitVec.toNat < 2 ^ n := by
  rw [← Int64.toBitVec_inj, ← BitVec.toNat_inj]
  show (t.toUInt64 >>> x).toNat = 0 ↔ t.toUInt64.toNat < 2 ^ n
  rw [UInt64.toNat_shiftRight, hx, Nat.shiftRight_eq_div_pow]
  constructor
  · intro h
    have d : t.toUInt64.toNat / 2 ^ n < 1 := by
      rw [h]
      decide
    have e := (Nat.div_lt_iff_lt_mul (Nat.two_pow_pos n)).mp d
    rw [Nat.one_mul] at e
    exact e
  · exact Nat.div_eq_of_lt
theorem cr_amt (s : Int64) : ∃ n, n < 64 ∧ s &&& 63 = lN n ∧ (s.toUInt64 &&& Int64.toUInt64 63).toNat % 64 = n := by
  have e : (s.toUInt64 &&& Int64.toUInt64 63).toNat = s.toUInt64.toNat % 2 ^ 6 := by
    rw [UInt64.toNat_and, show (Int64.toUInt64 63).toNat = 2 ^ 6 - 1 from by decide, Nat.and_two_pow_sub_one_eq_mod]
  refine ⟨s.toUInt64.toNat % 2 ^ 6, by omega, ?_, by omega⟩
  rw [← Int64.toBitVec_inj, ← BitVec.toNat_inj]
  show (s.toUInt64 &&& Int64.toUInt64 63).toNat = (BitVec.ofNat 64 (s.toUInt64.toNat % 2 ^ 6)).toNat
  rw [e, BitVec.toNat_ofNat]
  omega
end
section
/-! naturals as Int32 functions, bits, bytes, counts -/
def sv_nF (f : Nat → Nat) : Nat → Int32 := fun j => nI (f j)
def sv_up (f : Nat → Nat) (k x : Nat) : Nat → Nat := fun j => if j = k then x else f j
theorem sv_ups {f : Nat → Nat} {k x : Nat} : sv_up f k x k = x := if_pos rfl
theorem sv_upn {f : Nat → Nat} {k x j : Nat} (h : j ≠ k) : sv_up f k x j = f j := if_neg h
theorem sv_updN (f : Nat → Nat) (k x : Nat) : upd (sv_nF f) k (nI x) = sv_nF (sv_up f k x) := by
  funext j
  show (if j = k then nI x else nI (f j)) = nI (if j = k then x else f j)
  by_cases h : j = k
  · rw [if_pos h, if_pos h]
  · rw [if_neg h, if_neg h]
theorem sv_up_all {f : Nat → Nat} {k x : Nat} {P : Nat → Prop} (h : ∀ j, P (f j)) (hx : P x) : ∀ j, P (sv_up f k x j) := by
  intro j
  by_cases e : j = k
  · subst e; rw [sv_ups]; exact hx
  · rw [sv_upn e]; exact h j
def sv_bI (b : Bool) : Int32 := if b = true then 1 else 0
def sv_bF (f : Nat → Bool) : Nat → Int32 := fun j => sv_bI (f j)
def sv_ub (f : Nat → Bool) (k : Nat) (x : Bool) : Nat → Bool := fun j => if j = k then x else f j
theorem sv_ubs {f : Nat → Bool} {k : Nat} {x : Bool} : sv_ub f k x k = x := if_pos rfl
theorem sv_ubn {f : Nat → Bool} {k j : Nat} {x : Bool} (h : j ≠ k) : sv_ub f k x j = f j := if_neg h
theorem sv_updB (f : Nat → Bool) (k : Nat) (x : Bool) : upd (sv_bF f) k (sv_bI x) = sv_bF (sv_ub f k x) := by
  funext j
  show (if j = k then sv_bI x else sv_bI (f j)) = sv_bI (if j = k then x else f j)
  by_cases h : j = k
  · rw [if_pos h, if_pos h]
  · rw [if_neg h, if_neg h]
theorem sv_bI0 (b : Bool) : sv_bI b = 0 ↔ b = false := by cases b <;> decide
theorem sv_bI1 (b : Bool) : sv_bI b = 1 ↔ b = true := by cases b <;> decide
theorem sv_i8 : ∀ a, a < 128 → (nI a).toInt8.toInt32 = nI a := by decide +kernel
theorem sv_n1 {a : Nat} (h : a < 128) : vp_nar .byte (nI a) = nI a := by rw [vp_nar_byte]; exact sv_i8 a h
theorem sv_n2 {a : Nat} (h : a < 128) : vp_nar .byte (nI a).toInt8.toInt32 = nI a := by rw [sv_i8 a h, sv_n1 h]
theorem sv_nm1 : vp_nar .byte (-1) = -1 := by rw [vp_nar_byte]; decide
theorem sv_nm2 : vp_nar .byte (-2) = -2 := by rw [vp_nar_byte]; decide
theorem sv_or (a b : Nat) : nI a ||| nI b = nI (a ||| b) := by
  apply Int32.toBitVec_inj.1
  show BitVec.ofNat 32 a ||| BitVec.ofNat 32 b = BitVec.ofNat 32 (a ||| b)
  apply BitVec.eq_of_getLsbD_eq
  intro i hi
  simp [hi]
theorem sv_shr {a k : Nat} (ha : a < 2 ^ 31) (hk : k < 32) : nI a >>> (nI k &&& 31) = nI (a / 2 ^ k) := pk_shrN ha _ k (s_l k hk)
theorem sv_tb {a k : Nat} (ha : a < 2 ^ 31) (hk : k < 32) : ((nI a >>> (nI k &&& 31)) &&& 1) = nI (a / 2 ^ k % 2) := by
  rw [sv_shr ha hk]
  have h : a / 2 ^ k < 2 ^ 32 := Nat.lt_of_le_of_lt (Nat.div_le_self _ _) (by omega)
  have := pk_andN h (m := 1) 1 (by decide)
  rw [this]
theorem sv_tbv (a k : Nat) : a / 2 ^ k % 2 = (a.testBit k).toNat := by
  rw [Nat.testBit_eq_decide_div_mod_eq]
  rcases Nat.mod_two_eq_zero_or_one (a / 2 ^ k) with h | h <;> rw [h] <;> rfl
theorem sv_tb0 {a k : Nat} (ha : a < 2 ^ 31) (hk : k < 32) : ((nI a >>> (nI k &&& 31)) &&& 1) = 0 ↔ a.testBit k = false := by
  rw [sv_tb ha hk, sv_tbv]
  cases a.testBit k <;> decide
theorem sv_tb1 {a k : Nat} (ha : a < 2 ^ 31) (hk : k < 32) : ((nI a >>> (nI k &&& 31)) &&& 1) = 1 ↔ a.testBit k = true := by
  rw [sv_tb ha hk, sv_tbv]
  cases a.testBit k <;> decide
theorem sv_shl1 {k : Nat} (hk : k < 31) : (1 : Int32) <<< (nI k &&& 31) = nI (2 ^ k) := by
  have h : 1 * 2 ^ k < 2 ^ 32 := by
    have : 2 ^ k < 2 ^ 31 := Nat.pow_lt_pow_right (by omega) hk
    omega
  have := pk_shlN (n := 1) (nI k &&& 31) k (s_l k (by omega)) h
  rw [Nat.one_mul] at this
  exact this
/-- counts -/
def sv_ct (p : Nat → Bool) : Nat → Nat
  | 0 => 0
  | n + 1 => sv_ct p n + (p n).toNat
theorem sv_ct_le (p : Nat → Bool) : ∀ n, sv_ct p n ≤ n
  | 0 => Nat.le_refl _
  | n + 1 => by
    have a := sv_ct_le p n
    have b : (p n).toNat ≤ 1 := by cases p n <;> decide
    simp only [sv_ct]; omega
theorem sv_ct_eq {p q : Nat → Bool} : ∀ {n : Nat}, (∀ i, i < n → p i = q i) → sv_ct p n = sv_ct q n
  | 0, _ => rfl
  | n + 1, h => by
    simp only [sv_ct]
    rw [sv_ct_eq (n := n) (fun i hi => h i (by omega)), h n (by omega)]
theorem sv_ct_0 {p : Nat → Bool} : ∀ {n : Nat}, (∀ i, i < n → p i = false) → sv_ct p n = 0
  | 0, _ => rfl
  | n + 1, h => by
    simp only [sv_ct]
    rw [sv_ct_0 (n := n) (fun i hi => h i (by omega)), h n (by omega)]
    rfl
theorem sv_ct_1 {p q : Nat → Bool} {a : Nat} (hp : p a = true) (hq : q a = false) : ∀ {n : Nat}, a < n → (∀ i, i < n → i ≠ a → p i = q i) → sv_ct p n = sv_ct q n + 1
  | 0, h, _ => by omega
  | n + 1, h, hh => by
    simp only [sv_ct]
    rcases Nat.lt_or_ge a n with z | z
    · rw [sv_ct_1 hp hq z (fun i hi => hh i (by omega)), hh n (by omega) (by omega)]
      omega
    · have e : a = n := by omega
      subst e
      rw [sv_ct_eq (p := p) (q := q) (fun i hi => hh i (by omega) (by omega)), hp, hq]
      rfl
theorem sv_ct_pos {p : Nat → Bool} {a : Nat} (hp : p a = true) : ∀ {n : Nat}, a < n → 0 < sv_ct p n
  | 0, h => by omega
  | n + 1, h => by
    simp only [sv_ct]
    rcases Nat.lt_or_ge a n with z | z
    · have := sv_ct_pos hp z
      omega
    · have e : a = n := by omega
      subst e
      rw [hp]
      show 0 < sv_ct p a + 1
      omega
theorem sv_ct_ex {p : Nat → Bool} : ∀ {n : Nat}, 0 < sv_ct p n → ∃ i, i < n ∧ p i = true
  | 0, h => by simp only [sv_ct] at h; omega
  | n + 1, h => by
    cases e : p n with
    | true => exact ⟨n, by omega, e⟩
    | false =>
      simp only [sv_ct, e] at h
      obtain ⟨i, hi, hp⟩ := sv_ct_ex (n := n) (by simpa using h)
      exact ⟨i, by omega, hp⟩
/-- the least one, if there is one -/
theorem sv_least {p : Nat → Bool} : ∀ {n : Nat}, (∃ i, i < n ∧ p i = true) → ∃ i, i < n ∧ p i = true ∧ ∀ j, j < i → p j = false
  | 0, h => by obtain ⟨i, hi, _⟩ := h; omega
  | n + 1, h => by
    by_cases e : ∃ i, i < n ∧ p i = true
    · obtain ⟨i, hi, a, b⟩ := sv_least e
      exact ⟨i, by omega, a, b⟩
    · obtain ⟨i, hi, hp⟩ := h
      refine ⟨i, hi, hp, fun j hj => ?_⟩
      cases q : p j with
      | false => rfl
      | true => exact absurd ⟨j, by omega, q⟩ e
/-- an or over the chosen ones below n -/
def sv_O (p : Nat → Bool) (m : Nat → Nat) : Nat → Nat
  | 0 => 0
  | n + 1 => if p n = true then sv_O p m n ||| m n else sv_O p m n
theorem sv_O_t {p : Nat → Bool} {m : Nat → Nat} {n : Nat} (h : p n = true) : sv_O p m (n + 1) = sv_O p m n ||| m n := if_pos h
theorem sv_O_f {p : Nat → Bool} {m : Nat → Nat} {n : Nat} (h : p n = false) : sv_O p m (n + 1) = sv_O p m n := if_neg (by rw [h]; decide)
theorem sv_O_b {p : Nat → Bool} {m : Nat → Nat} {b : Nat} : ∀ {n : Nat}, (sv_O p m n).testBit b = true ↔ ∃ i, i < n ∧ p i = true ∧ (m i).testBit b = true
  | 0 => by
    constructor
    · intro h; simp [sv_O] at h
    · rintro ⟨i, hi, _⟩; omega
  | n + 1 => by
    have ih := sv_O_b (p := p) (m := m) (b := b) (n := n)
    cases e : p n with
    | true =>
      rw [sv_O_t e, Nat.testBit_or, Bool.or_eq_true, ih]
      constructor
      · rintro (⟨i, hi, a, c⟩ | h)
        · exact ⟨i, by omega, a, c⟩
        · exact ⟨n, by omega, e, h⟩
      · rintro ⟨i, hi, a, c⟩
        rcases Nat.lt_or_ge i n with z | z
        · exact Or.inl ⟨i, z, a, c⟩
        · have : i = n := by omega
          subst this
          exact Or.inr c
    | false =>
      rw [sv_O_f e, ih]
      constructor
      · rintro ⟨i, hi, a, c⟩
        exact ⟨i, by omega, a, c⟩
      · rintro ⟨i, hi, a, c⟩
        rcases Nat.lt_or_ge i n with z | z
        · exact ⟨i, z, a, c⟩
        · have : i = n := by omega
          subst this
          rw [e] at a
          exact absurd a (by decide)
theorem sv_O_lt {p : Nat → Bool} {m : Nat → Nat} {k : Nat} (h : ∀ i, m i < 2 ^ k) : ∀ n, sv_O p m n < 2 ^ k
  | 0 => Nat.two_pow_pos k
  | n + 1 => by
    cases e : p n with
    | true => rw [sv_O_t e]; exact Nat.or_lt_two_pow (sv_O_lt h n) (h n)
    | false => rw [sv_O_f e]; exact sv_O_lt h n
theorem sv_beq {a b : Bool} (h : a = true ↔ b = true) : a = b := by
  cases a <;> cases b <;> simp_all
theorem sv_ext {a b : Nat} (h : ∀ i, a.testBit i = true ↔ b.testBit i = true) : a = b := Nat.eq_of_testBit_eq fun i => sv_beq (h i)
theorem sv_big {a i k : Nat} (h : a < 2 ^ k) (hi : k ≤ i) : a.testBit i = false := Nat.testBit_lt_two_pow (Nat.lt_of_lt_of_le h (Nat.pow_le_pow_right (by omega) hi))
end
section
/-! the closure of the order on sorts, as the reference reckons it, is the least closed set -/
def sv_st (U : Nat → Bool) (c s : Nat) : Nat := if (U c && s.testBit (c / 4)) = true then s ||| 2 ^ (c % 4) else s
def sv_ps (U : Nat → Bool) : Nat → Nat → Nat
  | 0, s => s
  | c + 1, s => sv_st U c (sv_ps U c s)
def sv_it (U : Nat → Bool) : Nat → Nat → Nat
  | 0, s => s
  | p + 1, s => sv_ps U 16 (sv_it U p s)
def sv_YS (U : Nat → Bool) (a : Nat) : Nat := sv_it U 4 (2 ^ a)
theorem sv_st_m {U : Nat → Bool} {c s i : Nat} (h : s.testBit i = true) : (sv_st U c s).testBit i = true := by
  unfold sv_st
  split
  · rw [Nat.testBit_or, h]; rfl
  · exact h
theorem sv_ps_m {U : Nat → Bool} {s i : Nat} (h : s.testBit i = true) : ∀ c, (sv_ps U c s).testBit i = true
  | 0 => h
  | c + 1 => sv_st_m (sv_ps_m h c)
theorem sv_ps_c {U : Nat → Bool} {s c : Nat} (hu : U c = true) (h : s.testBit (c / 4) = true) : ∀ n, c < n → (sv_ps U n s).testBit (c % 4) = true
  | 0, hc => by omega
  | n + 1, hc => by
    rcases Nat.lt_or_ge c n with z | z
    · exact sv_st_m (sv_ps_c hu h n z)
    · have e : n = c := by omega
      subst e
      show (sv_st U n (sv_ps U n s)).testBit (n % 4) = true
      unfold sv_st
      rw [if_pos (by rw [hu, sv_ps_m h n]; rfl), Nat.testBit_or, Nat.testBit_two_pow_self, Bool.or_true]
theorem sv_ps_lt {U : Nat → Bool} {s : Nat} (h : s < 16) : ∀ c, sv_ps U c s < 16
  | 0 => h
  | c + 1 => by
    have ih := sv_ps_lt (U := U) h c
    show sv_st U c (sv_ps U c s) < 16
    unfold sv_st
    split
    · have h2 : 2 ^ (c % 4) < 2 ^ 4 := Nat.pow_lt_pow_right (by omega) (by omega)
      exact Nat.or_lt_two_pow (n := 4) ih h2
    · exact ih
def sv_cl (U : Nat → Bool) (K : Nat → Prop) : Prop := ∀ c, c < 16 → U c = true → K (c / 4) → K (c % 4)
theorem sv_ps_k {U : Nat → Bool} {K : Nat → Prop} (hK : sv_cl U K) {s : Nat} (h : ∀ i, s.testBit i = true → K i) : ∀ c, c ≤ 16 → ∀ i, (sv_ps U c s).testBit i = true → K i
  | 0, _ => h
  | c + 1, hc => by
    intro i hi
    have ih := sv_ps_k hK h c (by omega)
    have hi' : (sv_st U c (sv_ps U c s)).testBit i = true := hi
    unfold sv_st at hi'
    split at hi'
    · rename_i hb
      rw [Bool.and_eq_true] at hb
      rw [Nat.testBit_or, Bool.or_eq_true] at hi'
      rcases hi' with z | z
      · exact ih i z
      · rw [Nat.testBit_two_pow] at z
        have e : c % 4 = i := of_decide_eq_true z
        subst e
        exact hK c (by omega) hb.1 (ih _ hb.2)
    · exact ih i hi'
theorem sv_it_m {U : Nat → Bool} {s i : Nat} (h : s.testBit i = true) : ∀ p, (sv_it U p s).testBit i = true
  | 0 => h
  | p + 1 => sv_ps_m (sv_it_m h p) 16
theorem sv_it_lt {U : Nat → Bool} {s : Nat} (h : s < 16) : ∀ p, sv_it U p s < 16
  | 0 => h
  | p + 1 => sv_ps_lt (sv_it_lt h p) 16
theorem sv_it_k {U : Nat → Bool} {K : Nat → Prop} (hK : sv_cl U K) {s : Nat} (h : ∀ i, s.testBit i = true → K i) : ∀ p i, (sv_it U p s).testBit i = true → K i
  | 0 => h
  | p + 1 => sv_ps_k hK (sv_it_k hK h p) 16 (by omega)
def sv_pc (s : Nat) : Nat := s % 2 + s / 2 % 2 + s / 4 % 2 + s / 8 % 2
theorem sv_pcs : ∀ s, s < 16 → ∀ t, t < 16 → (∀ i, i < 4 → s.testBit i = true → t.testBit i = true) → s = t ∨ sv_pc s < sv_pc t := by decide +kernel
theorem sv_pc_le (s : Nat) : sv_pc s ≤ 4 := by unfold sv_pc; omega
theorem sv_pc_1 : ∀ a, a < 4 → sv_pc (2 ^ a) = 1 := by decide
theorem sv_p4 : ∀ a, a < 4 → 2 ^ a < 16 := by decide
theorem sv_ps_g {U : Nat → Bool} {s : Nat} (h : s < 16) : sv_ps U 16 s = s ∨ sv_pc s < sv_pc (sv_ps U 16 s) := by
  rcases sv_pcs s h (sv_ps U 16 s) (sv_ps_lt h 16) (fun i _ hi => sv_ps_m hi 16) with e | e
  · exact Or.inl e.symm
  · exact Or.inr e
theorem sv_YS_fix {U : Nat → Bool} {a : Nat} (ha : a < 4) : sv_ps U 16 (sv_YS U a) = sv_YS U a := by
  have h0 := sv_p4 a ha
  have l1 := sv_it_lt (U := U) h0 1
  have l2 := sv_it_lt (U := U) h0 2
  have l3 := sv_it_lt (U := U) h0 3
  have l4 := sv_it_lt (U := U) h0 4
  have e1 : sv_it U 1 (2 ^ a) = sv_ps U 16 (2 ^ a) := rfl
  have e2 : sv_it U 2 (2 ^ a) = sv_ps U 16 (sv_it U 1 (2 ^ a)) := rfl
  have e3 : sv_it U 3 (2 ^ a) = sv_ps U 16 (sv_it U 2 (2 ^ a)) := rfl
  have e4 : sv_it U 4 (2 ^ a) = sv_ps U 16 (sv_it U 3 (2 ^ a)) := rfl
  show sv_ps U 16 (sv_it U 4 (2 ^ a)) = sv_it U 4 (2 ^ a)
  rcases sv_ps_g (U := U) h0 with z | g0
  · rw [e4, e3, e2, e1, z, z, z, z, z]
  rcases sv_ps_g (U := U) l1 with z | g1
  · rw [e4, e3, e2, z, z, z, z]
  rcases sv_ps_g (U := U) l2 with z | g2
  · rw [e4, e3, z, z, z]
  rcases sv_ps_g (U := U) l3 with z | g3
  · rw [e4, z, z]
  have q := sv_pc_1 a ha
  have q4 := sv_pc_le (sv_ps U 16 (sv_it U 3 (2 ^ a)))
  rw [← e1] at g0
  rw [← e2] at g1
  rw [← e3] at g2
  omega
theorem sv_YS_lt {U : Nat → Bool} {a : Nat} (ha : a < 4) : sv_YS U a < 16 := sv_it_lt (sv_p4 a ha) 4
theorem sv_YS_self {U : Nat → Bool} {a : Nat} : (sv_YS U a).testBit a = true := sv_it_m Nat.testBit_two_pow_self 4
theorem sv_YS_cl {U : Nat → Bool} {a : Nat} (ha : a < 4) : sv_cl U (fun i => (sv_YS U a).testBit i = true) := by
  intro c hc hu h
  have := sv_ps_c hu h 16 hc
  rw [sv_YS_fix ha] at this
  exact this
theorem sv_YS_min {U : Nat → Bool} {K : Nat → Prop} {a : Nat} (hK : sv_cl U K) (h : K a) : ∀ i, (sv_YS U a).testBit i = true → K i := by
  refine sv_it_k hK ?_ 4
  intro i hi
  rw [Nat.testBit_two_pow] at hi
  have e : a = i := of_decide_eq_true hi
  subst e
  exact h
/-- one edge more -/
theorem sv_YS_up {U : Nat → Bool} {a b s : Nat} (ha : a < 4) (hb : b < 4) (hs : s < 4) :
    sv_YS (sv_ub U (4 * a + b) true) s = if (sv_YS U s).testBit a = true then sv_YS U s ||| sv_YS U b else sv_YS U s := by
  have old : ∀ K, sv_cl (sv_ub U (4 * a + b) true) K → sv_cl U K := by
    intro K hK c hc hu h
    refine hK c hc ?_ h
    by_cases e : c = 4 * a + b
    · subst e; exact sv_ubs
    · rw [sv_ubn e]; exact hu
  have nw : ∀ K, sv_cl (sv_ub U (4 * a + b) true) K → K a → K b := by
    intro K hK h
    have := hK (4 * a + b) (by omega) sv_ubs
    have e1 : (4 * a + b) / 4 = a := by omega
    have e2 : (4 * a + b) % 4 = b := by omega
    rw [e1, e2] at this
    exact this h
  have mk : ∀ K : Nat → Prop, sv_cl U K → (K a → K b) → sv_cl (sv_ub U (4 * a + b) true) K := by
    intro K hK h c hc hu hk
    by_cases e : c = 4 * a + b
    · subst e
      have e1 : (4 * a + b) / 4 = a := by omega
      have e2 : (4 * a + b) % 4 = b := by omega
      rw [e1] at hk
      rw [e2]
      exact h hk
    · rw [sv_ubn e] at hu
      exact hK c hc hu hk
  have n0 := sv_YS_cl (U := sv_ub U (4 * a + b) true) hs
  by_cases q : (sv_YS U s).testBit a = true
  · rw [if_pos q]
    apply sv_ext
    intro i
    constructor
    · refine sv_YS_min (K := fun i => (sv_YS U s ||| sv_YS U b).testBit i = true) (mk _ ?_ ?_) ?_ i
      · intro c hc hu hk
        show (sv_YS U s ||| sv_YS U b).testBit (c % 4) = true
        have hk' : (sv_YS U s ||| sv_YS U b).testBit (c / 4) = true := hk
        rw [Nat.testBit_or, Bool.or_eq_true] at hk' ⊢
        rcases hk' with z | z
        · exact Or.inl (sv_YS_cl hs c hc hu z)
        · exact Or.inr (sv_YS_cl hb c hc hu z)
      · intro _
        show (sv_YS U s ||| sv_YS U b).testBit b = true
        rw [Nat.testBit_or, sv_YS_self, Bool.or_true]
      · show (sv_YS U s ||| sv_YS U b).testBit s = true
        rw [Nat.testBit_or, sv_YS_self, Bool.true_or]
    · intro h
      rw [Nat.testBit_or, Bool.or_eq_true] at h
      have sub := sv_YS_min (a := s) (old _ n0) sv_YS_self
      rcases h with z | z
      · exact sub i z
      · exact sv_YS_min (a := b) (old _ n0) (nw _ n0 (sub a q)) i z
  · rw [if_neg q]
    apply sv_ext
    intro i
    constructor
    · exact sv_YS_min (K := fun i => (sv_YS U s).testBit i = true) (mk _ (sv_YS_cl hs) (fun h => absurd h q)) sv_YS_self i
    · exact sv_YS_min (a := s) (old _ n0) sv_YS_self i
/-- the sorts of things: by the reference's formula -/
def sv_one (C : Nat → Nat) (t : Nat) : Nat := C (if t < 3 then t else if t < 6 then t - 3 else (t - 6) / 3)
def sv_SO (U : Nat → Bool) (C : Nat → Nat) (F G : Nat → Bool) (t : Nat) : Nat :=
  if t < 3 then sv_YS U (C t)
  else if t < 6 then sv_O (fun r => F r && (sv_YS U (C (t - 3))).testBit (r / 4)) (fun r => sv_YS U (r % 4)) 16
  else sv_O (fun r => G r && ((sv_YS U (C ((t - 6) / 3))).testBit (r / 16) && (sv_YS U (C ((t - 6) % 3))).testBit (r / 4 % 4))) (fun r => sv_YS U (r % 4)) 64
theorem sv_SO_lt {U : Nat → Bool} {C : Nat → Nat} {F G : Nat → Bool} (hC : ∀ j, C j < 4) (t : Nat) : sv_SO U C F G t < 16 := by
  unfold sv_SO
  split
  · exact sv_YS_lt (hC _)
  · split
    · exact sv_O_lt (k := 4) (fun r => sv_YS_lt (by omega)) 16
    · exact sv_O_lt (k := 4) (fun r => sv_YS_lt (by omega)) 64
/-- the component's way: targets first, upwards then -/
theorem sv_SOF {U F : Nat → Bool} {m : Nat → Nat} (hm : ∀ s t, s < 4 → t < 4 → (m s).testBit t = F (4 * s + t)) (x : Nat) :
    sv_O (fun s => (sv_O (fun s => x.testBit s) m 4).testBit s) (sv_YS U) 4 = sv_O (fun r => F r && x.testBit (r / 4)) (fun r => sv_YS U (r % 4)) 16 := by
  apply sv_ext
  intro i
  rw [sv_O_b, sv_O_b]
  constructor
  · rintro ⟨t, ht, h, hi⟩
    obtain ⟨s, hs, hx, hb⟩ := sv_O_b.mp h
    rw [hm s t hs ht] at hb
    refine ⟨4 * s + t, by omega, ?_, ?_⟩
    · have e1 : (4 * s + t) / 4 = s := by omega
      rw [e1, hb]
      exact hx
    · have e2 : (4 * s + t) % 4 = t := by omega
      rw [e2]
      exact hi
  · rintro ⟨r, hr, h, hi⟩
    rw [Bool.and_eq_true] at h
    refine ⟨r % 4, by omega, ?_, hi⟩
    refine sv_O_b.mpr ⟨r / 4, by omega, h.2, ?_⟩
    rw [hm (r / 4) (r % 4) (by omega) (by omega)]
    have e : 4 * (r / 4) + r % 4 = r := by omega
    rw [e]
    exact h.1
theorem sv_SOG {U G : Nat → Bool} {m : Nat → Nat} (hm : ∀ s t, s < 16 → t < 4 → (m s).testBit t = G (4 * s + t)) (x y : Nat) :
    sv_O (fun s => (sv_O (fun i => x.testBit (i / 4) && y.testBit (i % 4)) m 16).testBit s) (sv_YS U) 4 = sv_O (fun r => G r && (x.testBit (r / 16) && y.testBit (r / 4 % 4))) (fun r => sv_YS U (r % 4)) 64 := by
  apply sv_ext
  intro i
  rw [sv_O_b, sv_O_b]
  constructor
  · rintro ⟨t, ht, h, hi⟩
    obtain ⟨s, hs, hx, hb⟩ := sv_O_b.mp h
    rw [hm s t hs ht] at hb
    refine ⟨4 * s + t, by omega, ?_, ?_⟩
    · have e1 : (4 * s + t) / 16 = s / 4 := by omega
      have e2 : (4 * s + t) / 4 % 4 = s % 4 := by omega
      rw [e1, e2, hb]
      exact hx
    · have e2 : (4 * s + t) % 4 = t := by omega
      rw [e2]
      exact hi
  · rintro ⟨r, hr, h, hi⟩
    rw [Bool.and_eq_true] at h
    refine ⟨r % 4, by omega, ?_, hi⟩
    refine sv_O_b.mpr ⟨r / 4, by omega, ?_, ?_⟩
    · have e1 : r / 4 / 4 = r / 16 := by omega
      rw [e1]
      exact h.2
    · rw [hm (r / 4) (r % 4) (by omega) (by omega)]
      have e : 4 * (r / 4) + r % 4 = r := by omega
      rw [e]
      exact h.1
end
section
/-! terms, the head first: a pending count, complete stretches, their words -/
def sv_ar (t : Nat) : Nat := if t = 0 then 1 else if t = 1 then 2 else 0
theorem sv_ar0 : sv_ar 0 = 1 := rfl
theorem sv_ar1 : sv_ar 1 = 2 := rfl
theorem sv_ar2 {t : Nat} (h : 2 ≤ t) : sv_ar t = 0 := by
  unfold sv_ar
  rw [if_neg (by omega), if_neg (by omega)]
theorem sv_ar_le (t : Nat) : sv_ar t ≤ 2 := by
  unfold sv_ar
  split
  · omega
  · split <;> omega
def sv_pn (T : Nat → Nat) (i : Nat) : Nat → Nat
  | 0 => 1
  | n + 1 => sv_pn T i n + sv_ar (T (i + n)) - 1
theorem sv_pn_s (T : Nat → Nat) (i n : Nat) : sv_pn T i (n + 1) = sv_pn T i n + sv_ar (T (i + n)) - 1 := rfl
theorem sv_pn_0 (T : Nat → Nat) (i : Nat) : sv_pn T i 0 = 1 := rfl
def sv_Tm (T : Nat → Nat) (i n : Nat) : Prop := sv_pn T i n = 0 ∧ ∀ m, m < n → 0 < sv_pn T i m
theorem sv_Tm_u {T : Nat → Nat} {i n m : Nat} (h : sv_Tm T i n) (h' : sv_Tm T i m) : n = m := by
  rcases Nat.lt_trichotomy n m with z | z | z
  · have := h'.2 n z
    have := h.1
    omega
  · exact z
  · have := h.2 m z
    have := h'.1
    omega
noncomputable def sv_len (T : Nat → Nat) (i : Nat) : Nat := Classical.epsilon (fun n => sv_Tm T i n)
theorem sv_len_eq {T : Nat → Nat} {i n : Nat} (h : sv_Tm T i n) : sv_len T i = n := by
  have : sv_Tm T i (sv_len T i) := Classical.epsilon_spec (p := fun n => sv_Tm T i n) ⟨n, h⟩
  exact sv_Tm_u this h
theorem sv_Tm_pos {T : Nat → Nat} {i n : Nat} (h : sv_Tm T i n) : 0 < n := by
  rcases Nat.eq_zero_or_pos n with z | z
  · subst z
    have := h.1
    rw [sv_pn_0] at this
    omega
  · exact z
theorem sv_pn_app {T : Nat → Nat} {i n : Nat} (h : sv_pn T i n = 1) : ∀ m, sv_pn T i (n + m) = sv_pn T (i + n) m
  | 0 => h
  | m + 1 => by
    show sv_pn T i (n + m) + sv_ar (T (i + (n + m))) - 1 = sv_pn T (i + n) m + sv_ar (T (i + n + m)) - 1
    rw [sv_pn_app h m, Nat.add_assoc]
theorem sv_pn_f {T : Nat → Nat} {i : Nat} (h : T i = 0) : sv_pn T i 1 = 1 := by
  show 1 + sv_ar (T (i + 0)) - 1 = 1
  rw [Nat.add_zero, h]
  rfl
theorem sv_pn_g1 {T : Nat → Nat} {i : Nat} (h : T i = 1) : sv_pn T i 1 = 2 := by
  show 1 + sv_ar (T (i + 0)) - 1 = 2
  rw [Nat.add_zero, h]
  rfl
theorem sv_pn_l {T : Nat → Nat} {i : Nat} (h : 2 ≤ T i) : sv_pn T i 1 = 0 := by
  show 1 + sv_ar (T (i + 0)) - 1 = 0
  rw [Nat.add_zero, sv_ar2 h]
theorem sv_pn_g {T : Nat → Nat} {i : Nat} (h : T i = 1) : ∀ m, (∀ k, k < m → 0 < sv_pn T (i + 1) k) → sv_pn T i (1 + m) = sv_pn T (i + 1) m + 1
  | 0, _ => sv_pn_g1 h
  | m + 1, hk => by
    have ih := sv_pn_g h m (fun k hm => hk k (by omega))
    have p := hk m (by omega)
    have e : sv_pn T i (1 + (m + 1)) = sv_pn T i (1 + m) + sv_ar (T (i + (1 + m))) - 1 := rfl
    rw [e, sv_pn_s, ih, ← Nat.add_assoc]
    omega
theorem sv_Tm_l {T : Nat → Nat} {i : Nat} (h : 2 ≤ T i) : sv_Tm T i 1 := by
  refine ⟨sv_pn_l h, fun m hm => ?_⟩
  have e : m = 0 := by omega
  subst e
  rw [sv_pn_0]
  omega
theorem sv_Tm_f {T : Nat → Nat} {i n : Nat} (h : T i = 0) (hn : sv_Tm T (i + 1) n) : sv_Tm T i (1 + n) := by
  refine ⟨by rw [sv_pn_app (sv_pn_f h)]; exact hn.1, fun m hm => ?_⟩
  rcases Nat.eq_zero_or_pos m with z | z
  · subst z
    rw [sv_pn_0]
    omega
  · obtain ⟨k, rfl⟩ : ∃ k, m = 1 + k := ⟨m - 1, by omega⟩
    rw [sv_pn_app (sv_pn_f h)]
    exact hn.2 k (by omega)
theorem sv_Tm_g {T : Nat → Nat} {i n n' : Nat} (h : T i = 1) (hn : sv_Tm T (i + 1) n) (hn' : sv_Tm T (i + 1 + n) n') : sv_Tm T i (1 + n + n') := by
  have e1 : sv_pn T i (1 + n) = 1 := by rw [sv_pn_g h n hn.2, hn.1]
  have ea : i + (1 + n) = i + 1 + n := by omega
  refine ⟨by rw [sv_pn_app e1, ea]; exact hn'.1, fun m hm => ?_⟩
  rcases Nat.eq_zero_or_pos m with z | z
  · subst z
    rw [sv_pn_0]
    omega
  · rcases Nat.lt_or_ge m (1 + n) with y | y
    · obtain ⟨k, rfl⟩ : ∃ k, m = 1 + k := ⟨m - 1, by omega⟩
      rw [sv_pn_g h k (fun j hj => hn.2 j (by omega))]
      omega
    · obtain ⟨k, rfl⟩ : ∃ k, m = 1 + n + k := ⟨m - (1 + n), by omega⟩
      rw [sv_pn_app e1, ea]
      exact hn'.2 k (by omega)
/-- every place of a complete stretch begins a complete stretch in it -/
theorem sv_Tm_in {T : Nat → Nat} {B S k : Nat} (h : sv_Tm T B S) (hk : k < S) : ∃ n, sv_Tm T (B + k) n ∧ k + n ≤ S := by
  have key : ∀ m, k + m ≤ S → (∀ j, j < m → 0 < sv_pn T (B + k) j) → sv_pn T B (k + m) = sv_pn T (B + k) m + (sv_pn T B k - 1) := by
    intro m
    induction m with
    | zero =>
      intro _ _
      have := h.2 k hk
      rw [Nat.add_zero, sv_pn_0]
      omega
    | succ m ih =>
      intro hm hj
      have := ih (by omega) (fun j hj' => hj j (by omega))
      have p := hj m (by omega)
      have e : sv_pn T B (k + (m + 1)) = sv_pn T B (k + m) + sv_ar (T (B + (k + m))) - 1 := rfl
      rw [e, sv_pn_s, this, ← Nat.add_assoc]
      omega
  have ex : ∃ m, m ≤ S - k ∧ sv_pn T (B + k) m = 0 := by
    refine Classical.byContradiction fun hn => ?_
    have all : ∀ m, m ≤ S - k → 0 < sv_pn T (B + k) m := by
      intro m hm
      rcases Nat.eq_zero_or_pos (sv_pn T (B + k) m) with z | z
      · exact absurd ⟨m, hm, z⟩ hn
      · exact z
    have a := key (S - k) (by omega) (fun j hj => all j (by omega))
    have b := all (S - k) (Nat.le_refl _)
    have c : k + (S - k) = S := by omega
    rw [c, h.1] at a
    omega
  obtain ⟨m, ⟨hm, hz⟩, hl⟩ := pk_least (fun m => m ≤ S - k ∧ sv_pn T (B + k) m = 0) ex
  refine ⟨m, ⟨hz, fun j hj => ?_⟩, by omega⟩
  rcases Nat.eq_zero_or_pos (sv_pn T (B + k) j) with z | z
  · exact absurd ⟨by omega, z⟩ (hl j hj)
  · exact z
/-! words -/
def sv_tw (t : Nat) : List Nat := if t < 3 then [2 + t] else if t < 6 then [0, t - 1] else [1, 2 + (t - 6) / 3, 2 + (t - 6) % 3]
def sv_ex (d : Nat → Nat) (t : Nat) : List Nat := if t < 5 then [t] else sv_tw (d (t - 5))
def sv_cc (T d : Nat → Nat) (i : Nat) : Nat → List Nat
  | 0 => []
  | n + 1 => sv_cc T d i n ++ sv_ex d (T (i + n))
theorem sv_cc_add (T d : Nat → Nat) (i n : Nat) : ∀ m, sv_cc T d i (n + m) = sv_cc T d i n ++ sv_cc T d (i + n) m
  | 0 => by simp [sv_cc]
  | m + 1 => by
    show sv_cc T d i (n + m) ++ sv_ex d (T (i + (n + m))) = sv_cc T d i n ++ (sv_cc T d (i + n) m ++ sv_ex d (T (i + n + m)))
    rw [sv_cc_add T d i n m, List.append_assoc, Nat.add_assoc]
theorem sv_cc_1 (T d : Nat → Nat) (i : Nat) : sv_cc T d i 1 = sv_ex d (T i) := by
  show [] ++ sv_ex d (T (i + 0)) = _
  rw [List.nil_append, Nat.add_zero]
theorem sv_tw_ne : ∀ t, sv_tw t ≠ [] := by
  intro t h
  unfold sv_tw at h
  split at h
  · exact List.cons_ne_nil _ _ h
  · split at h <;> exact List.cons_ne_nil _ _ h
theorem sv_tw_inj : ∀ a, a < 15 → ∀ b, b < 15 → sv_tw a = sv_tw b → a = b := by decide +kernel
theorem sv_tw_len (t : Nat) : (sv_tw t).length ≤ 3 := by
  unfold sv_tw
  split
  · exact Nat.le_of_ble_eq_true rfl
  · split <;> exact Nat.le_of_ble_eq_true rfl
theorem sv_ex_len (d : Nat → Nat) (t : Nat) : (sv_ex d t).length ≤ 3 := by
  unfold sv_ex
  split
  · exact Nat.le_of_ble_eq_true rfl
  · exact sv_tw_len _
theorem sv_cc_len (T d : Nat → Nat) (i : Nat) : ∀ n, (sv_cc T d i n).length ≤ 3 * n
  | 0 => Nat.le_refl _
  | n + 1 => by
    have a := sv_cc_len T d i n
    have b := sv_ex_len d (T (i + n))
    show (sv_cc T d i n ++ sv_ex d (T (i + n))).length ≤ _
    rw [List.length_append]
    omega
/-- reading p terms off a word -/
def sv_rd : List Nat → Nat → Option (List Nat)
  | [], p => if p = 0 then some [] else none
  | t :: l, p => if p = 0 then some (t :: l) else sv_rd l (p - 1 + sv_ar t)
theorem sv_rd_0 (l : List Nat) : sv_rd l 0 = some l := by
  cases l with
  | nil => rfl
  | cons t l => rfl
theorem sv_rd_s (t : Nat) (l : List Nat) (p : Nat) : sv_rd (t :: l) (p + 1) = sv_rd l (p + sv_ar t) := by
  show (if p + 1 = 0 then some (t :: l) else sv_rd l (p + 1 - 1 + sv_ar t)) = _
  rw [if_neg (by omega), Nat.add_sub_cancel]
def sv_Pf (w : List Nat) : Prop := ∀ l p, sv_rd (w ++ l) (p + 1) = sv_rd l p
theorem sv_Pf_l {t : Nat} (h : 2 ≤ t) : sv_Pf [t] := by
  intro l p
  show sv_rd (t :: l) (p + 1) = sv_rd l p
  rw [sv_rd_s, sv_ar2 h, Nat.add_zero]
theorem sv_Pf_f {w : List Nat} (h : sv_Pf w) : sv_Pf (0 :: w) := by
  intro l p
  show sv_rd (0 :: (w ++ l)) (p + 1) = sv_rd l p
  rw [sv_rd_s, sv_ar0, h]
theorem sv_Pf_g {w w' : List Nat} (h : sv_Pf w) (h' : sv_Pf w') : sv_Pf (1 :: (w ++ w')) := by
  intro l p
  show sv_rd (1 :: (w ++ w' ++ l)) (p + 1) = sv_rd l p
  rw [sv_rd_s, sv_ar1, List.append_assoc]
  have := h (w' ++ l) (p + 1)
  rw [this, h']
theorem sv_Pf_tw (t : Nat) : sv_Pf (sv_tw t) := by
  unfold sv_tw
  split
  · exact sv_Pf_l (by omega)
  · split
    · exact sv_Pf_f (w := [t - 1]) (sv_Pf_l (by omega))
    · exact sv_Pf_g (w := [2 + (t - 6) / 3]) (w' := [2 + (t - 6) % 3]) (sv_Pf_l (by omega)) (sv_Pf_l (by omega))
theorem sv_Pf_u {w w' r r' : List Nat} (h : sv_Pf w) (h' : sv_Pf w') (e : w ++ r = w' ++ r') : w = w' ∧ r = r' := by
  have a := h r 0
  have b := h' r' 0
  rw [e, b, sv_rd_0, sv_rd_0] at a
  have c : r' = r := Option.some.inj a
  subst c
  exact ⟨List.append_cancel_right e, rfl⟩
/-! a complete pair of sides: nodes, used ones, right parts, words of nodes -/
def sv_us (S : Nat → Nat) (p : Nat) : Prop := p < S 0 ∨ (9 ≤ p ∧ p < 9 + S 1) ∨ (18 ≤ p ∧ p < 21)
def sv_CM (T S : Nat → Nat) : Prop := S 0 ≤ 9 ∧ S 1 ≤ 9 ∧ sv_Tm T 0 (S 0) ∧ sv_Tm T 9 (S 1) ∧ ∀ j, T j < 8
noncomputable def sv_R (T : Nat → Nat) (p : Nat) : Nat := p + 1 + sv_len T (p + 1)
noncomputable def sv_W (T d : Nat → Nat) (p : Nat) : List Nat := if p < 18 then sv_cc T d p (sv_len T p) else sv_tw (d (p - 18))
theorem sv_us_lt {T S : Nat → Nat} (h : sv_CM T S) {p : Nat} (hp : sv_us S p) : p < 21 := by
  have := h.1
  have := h.2.1
  rcases hp with z | z | z <;> omega
/-- a token's node: its stretch, to the end E of its side -/
theorem sv_nd {T S : Nat → Nat} (h : sv_CM T S) {p : Nat} (hp : sv_us S p) (h18 : p < 18) :
    ∃ E n, sv_Tm T p n ∧ p + n ≤ E ∧ (∀ q, p ≤ q → q < E → sv_us S q ∧ q < 18) := by
  obtain ⟨h0, h1, t0, t1, _⟩ := h
  rcases hp with z | z | z
  · obtain ⟨n, hn, hl⟩ := sv_Tm_in t0 z
    rw [Nat.zero_add] at hn
    exact ⟨S 0, n, hn, hl, fun q _ hq => ⟨Or.inl hq, by omega⟩⟩
  · obtain ⟨n, hn, hl⟩ := sv_Tm_in t1 (k := p - 9) (by omega)
    have e : 9 + (p - 9) = p := by omega
    rw [e] at hn
    exact ⟨9 + S 1, n, hn, by omega, fun q hq1 hq => ⟨Or.inr (Or.inl ⟨by omega, hq⟩), by omega⟩⟩
  · omega
theorem sv_nd_f {T S : Nat → Nat} (h : sv_CM T S) {p : Nat} (hp : sv_us S p) (h18 : p < 18) (ht : T p = 0) :
    sv_us S (p + 1) ∧ p + 1 < 18 ∧ sv_len T p = 1 + sv_len T (p + 1) := by
  obtain ⟨E, n, hn, hl, hE⟩ := sv_nd h hp h18
  have n2 : 2 ≤ n := by
    have p0 := sv_Tm_pos hn
    rcases Nat.lt_or_ge n 2 with z | z
    · have e : n = 1 := by omega
      subst e
      have := hn.1
      rw [sv_pn_f ht] at this
      omega
    · exact z
  obtain ⟨u, l⟩ := hE (p + 1) (by omega) (by omega)
  obtain ⟨_, n', hn', _, _⟩ := sv_nd h u l
  refine ⟨u, l, ?_⟩
  rw [sv_len_eq hn', sv_len_eq (sv_Tm_f ht hn')]
theorem sv_nd_g {T S : Nat → Nat} (h : sv_CM T S) {p : Nat} (hp : sv_us S p) (h18 : p < 18) (ht : T p = 1) :
    sv_us S (p + 1) ∧ p + 1 < 18 ∧ sv_us S (sv_R T p) ∧ sv_R T p < 18 ∧ p + 1 < sv_R T p ∧ sv_len T p = 1 + sv_len T (p + 1) + sv_len T (sv_R T p) ∧ sv_Tm T (p + 1) (sv_len T (p + 1)) := by
  obtain ⟨E, n, hn, hl, hE⟩ := sv_nd h hp h18
  have n2 : 2 ≤ n := by
    have p0 := sv_Tm_pos hn
    rcases Nat.lt_or_ge n 2 with z | z
    · have e : n = 1 := by omega
      subst e
      have := hn.1
      rw [sv_pn_g1 ht] at this
      omega
    · exact z
  obtain ⟨u, l⟩ := hE (p + 1) (by omega) (by omega)
  obtain ⟨E', n', hn', _, _⟩ := sv_nd h u l
  have p' := sv_Tm_pos hn'
  have e1 : sv_pn T p (1 + n') = 1 := by rw [sv_pn_g ht n' hn'.2, hn'.1]
  have n3 : 1 + n' < n := by
    rcases Nat.lt_or_ge (1 + n') n with z | z
    · exact z
    · rcases Nat.lt_or_ge n (1 + n') with y | y
      · obtain ⟨k, rfl⟩ : ∃ k, n = 1 + k := ⟨n - 1, by omega⟩
        have := hn.1
        rw [sv_pn_g ht k (fun j hj => hn'.2 j (by omega))] at this
        omega
      · have e : n = 1 + n' := by omega
        have := hn.1
        rw [e, e1] at this
        omega
  have eR : sv_R T p = p + 1 + n' := by unfold sv_R; rw [sv_len_eq hn']
  obtain ⟨u2, l2⟩ := hE (p + 1 + n') (by omega) (by omega)
  obtain ⟨_, m, hm, _, _⟩ := sv_nd h u2 l2
  rw [eR, sv_len_eq hn', sv_len_eq hm, sv_len_eq (sv_Tm_g ht hn' hm)]
  exact ⟨u, l, u2, l2, by omega, rfl, hn'⟩
theorem sv_W_v {T d : Nat → Nat} (v : Nat) : sv_W T d (18 + v) = sv_tw (d v) := by
  unfold sv_W
  rw [if_neg (by omega), Nat.add_sub_cancel_left]
theorem sv_W_l {T d : Nat → Nat} {p : Nat} (h18 : p < 18) (ht : 2 ≤ T p) : sv_W T d p = sv_ex d (T p) := by
  unfold sv_W
  rw [if_pos h18, sv_len_eq (sv_Tm_l ht), sv_cc_1]
theorem sv_W_k {T d : Nat → Nat} {p : Nat} (h18 : p < 18) (ht : 2 ≤ T p) (h5 : T p < 5) : sv_W T d p = [T p] := by
  rw [sv_W_l h18 ht]
  exact if_pos h5
theorem sv_W_x {T d : Nat → Nat} {p : Nat} (h18 : p < 18) (h5 : 5 ≤ T p) : sv_W T d p = sv_tw (d (T p - 5)) := by
  rw [sv_W_l h18 (by omega)]
  exact if_neg (by omega)
theorem sv_W_f {T S d : Nat → Nat} (h : sv_CM T S) {p : Nat} (hp : sv_us S p) (h18 : p < 18) (ht : T p = 0) : sv_W T d p = 0 :: sv_W T d (p + 1) := by
  obtain ⟨_, l, e⟩ := sv_nd_f h hp h18 ht
  unfold sv_W
  rw [if_pos h18, if_pos l, e, sv_cc_add, sv_cc_1, ht]
  rfl
theorem sv_W_g {T S d : Nat → Nat} (h : sv_CM T S) {p : Nat} (hp : sv_us S p) (h18 : p < 18) (ht : T p = 1) : sv_W T d p = 1 :: (sv_W T d (p + 1) ++ sv_W T d (sv_R T p)) := by
  obtain ⟨_, l, _, l2, _, e, _⟩ := sv_nd_g h hp h18 ht
  have e2 : sv_R T p = p + (1 + sv_len T (p + 1)) := by unfold sv_R; omega
  unfold sv_W
  rw [if_pos h18, if_pos l, if_pos l2, e, sv_cc_add, sv_cc_add, sv_cc_1, ht, ← e2]
  rfl
theorem sv_W_P {T S d : Nat → Nat} (h : sv_CM T S) : ∀ k p, 18 < p + k → sv_us S p → sv_Pf (sv_W T d p) := by
  intro k
  induction k with
  | zero =>
    intro p hk hp
    obtain ⟨v, rfl⟩ : ∃ v, p = 18 + v := ⟨p - 18, by omega⟩
    rw [sv_W_v]
    exact sv_Pf_tw _
  | succ k ih =>
    intro p hk hp
    rcases Nat.lt_or_ge p 18 with h18 | h18
    · rcases Nat.lt_or_ge (T p) 2 with z | z
      · rcases Nat.eq_zero_or_pos (T p) with y | y
        · rw [sv_W_f h hp h18 y]
          exact sv_Pf_f (ih _ (by omega) (sv_nd_f h hp h18 y).1)
        · have y1 : T p = 1 := by omega
          obtain ⟨u, l, u2, l2, g, _, _⟩ := sv_nd_g h hp h18 y1
          rw [sv_W_g h hp h18 y1]
          exact sv_Pf_g (ih _ (by omega) u) (ih _ (by omega) u2)
      · rw [sv_W_l h18 z]
        unfold sv_ex
        split
        · exact sv_Pf_l z
        · exact sv_Pf_tw _
    · obtain ⟨v, rfl⟩ : ∃ v, p = 18 + v := ⟨p - 18, by omega⟩
      rw [sv_W_v]
      exact sv_Pf_tw _
theorem sv_WP {T S d : Nat → Nat} (h : sv_CM T S) {p : Nat} (hp : sv_us S p) : sv_Pf (sv_W T d p) := sv_W_P h 19 p (by omega) hp
theorem sv_W_0 {T S d : Nat → Nat} (h : sv_CM T S) : sv_W T d 0 = sv_cc T d 0 (S 0) := by
  unfold sv_W
  rw [if_pos (by omega), sv_len_eq h.2.2.1]
theorem sv_W_9 {T S d : Nat → Nat} (h : sv_CM T S) : sv_W T d 9 = sv_cc T d 9 (S 1) := by
  unfold sv_W
  rw [if_pos (by omega), sv_len_eq h.2.2.2.1]
end
section
/-! joining: links, roots, classes -/
def sv_b (T : Nat → Nat) (n : Nat) : Nat := if n < 18 ∧ 5 ≤ T n then 13 + T n else n
def sv_nx (T : Nat → Nat) (J : Nat → Option Nat) (n : Nat) : Nat := (J n).getD (sv_b T n)
def sv_go (T : Nat → Nat) (J : Nat → Option Nat) : Nat → Nat → Nat
  | 0, n => n
  | k + 1, n => sv_go T J k (sv_nx T J n)
def sv_fd (T : Nat → Nat) (J : Nat → Option Nat) (n : Nat) : Nat := sv_go T J 24 n
def sv_rt (T : Nat → Nat) (J : Nat → Option Nat) (n : Nat) : Prop := J n = none ∧ ¬ (n < 18 ∧ 5 ≤ T n)
noncomputable def sv_rb (T S : Nat → Nat) (J : Nat → Option Nat) (n : Nat) : Bool := @decide (sv_us S n ∧ sv_rt T J n) (Classical.propDecidable _)
noncomputable def sv_nr (T S : Nat → Nat) (J : Nat → Option Nat) : Nat := sv_ct (sv_rb T S J) 21
def sv_uo (J : Nat → Option Nat) (x y : Nat) : Nat → Option Nat := fun n => if n = x then some y else J n
theorem sv_uos {J : Nat → Option Nat} {x y : Nat} : sv_uo J x y x = some y := if_pos rfl
theorem sv_uon {J : Nat → Option Nat} {x y n : Nat} (h : n ≠ x) : sv_uo J x y n = J n := if_neg h
theorem sv_rb_t {T S : Nat → Nat} {J : Nat → Option Nat} {n : Nat} (h : sv_us S n) (h' : sv_rt T J n) : sv_rb T S J n = true := by
  unfold sv_rb
  exact @decide_eq_true _ (Classical.propDecidable _) ⟨h, h'⟩
theorem sv_rb_f {T S : Nat → Nat} {J : Nat → Option Nat} {n : Nat} (h : ¬ (sv_us S n ∧ sv_rt T J n)) : sv_rb T S J n = false := by
  unfold sv_rb
  exact @decide_eq_false _ (Classical.propDecidable _) h
theorem sv_rb_i {T S : Nat → Nat} {J : Nat → Option Nat} {n : Nat} (h : sv_rb T S J n = true) : sv_us S n ∧ sv_rt T J n := by
  rcases Classical.em (sv_us S n ∧ sv_rt T J n) with z | z
  · exact z
  · rw [sv_rb_f z] at h
    exact absurd h (by decide)
theorem sv_nx_s {T : Nat → Nat} {J : Nat → Option Nat} {n m : Nat} (h : J n = some m) : sv_nx T J n = m := by
  unfold sv_nx
  rw [h]
  rfl
theorem sv_nx_n {T : Nat → Nat} {J : Nat → Option Nat} {n : Nat} (h : J n = none) : sv_nx T J n = sv_b T n := by
  unfold sv_nx
  rw [h]
  rfl
theorem sv_b_t {T : Nat → Nat} {n : Nat} (h : n < 18) (h' : 5 ≤ T n) : sv_b T n = 13 + T n := if_pos ⟨h, h'⟩
theorem sv_b_f {T : Nat → Nat} {n : Nat} (h : ¬ (n < 18 ∧ 5 ≤ T n)) : sv_b T n = n := if_neg h
theorem sv_nx_r {T : Nat → Nat} {J : Nat → Option Nat} {n : Nat} (h : sv_rt T J n) : sv_nx T J n = n := by
  rw [sv_nx_n h.1, sv_b_f h.2]
theorem sv_go_r {T : Nat → Nat} {J : Nat → Option Nat} {n : Nat} (h : sv_rt T J n) : ∀ k, sv_go T J k n = n
  | 0 => rfl
  | k + 1 => by
    show sv_go T J k (sv_nx T J n) = n
    rw [sv_nx_r h]
    exact sv_go_r h k
theorem sv_go_a {T : Nat → Nat} {J : Nat → Option Nat} : ∀ a b n, sv_go T J (a + b) n = sv_go T J b (sv_go T J a n)
  | 0, b, n => by rw [Nat.zero_add]; rfl
  | a + 1, b, n => by
    have e : a + 1 + b = (a + b) + 1 := by omega
    rw [e]
    show sv_go T J (a + b) (sv_nx T J n) = sv_go T J b (sv_go T J a (sv_nx T J n))
    exact sv_go_a a b _
theorem sv_go_k {T : Nat → Nat} {J : Nat → Option Nat} {a k n : Nat} (h : sv_rt T J (sv_go T J a n)) (hk : a ≤ k) : sv_go T J k n = sv_go T J a n := by
  obtain ⟨c, rfl⟩ : ∃ c, k = a + c := ⟨k - a, by omega⟩
  rw [sv_go_a, sv_go_r h]
def sv_V (T S : Nat → Nat) (J : Nat → Option Nat) : Prop :=
  (∀ n m, sv_us S n → J n = some m → sv_us S m) ∧
  (∀ n m, sv_us S n → n < 18 → J n = some m → m < 18 ∧ T n < 5 ∧ T m = T n) ∧
  (∀ n, sv_us S n → sv_rt T J (sv_go T J (22 - sv_nr T S J) n)) ∧ 1 ≤ sv_nr T S J ∧ sv_nr T S J ≤ 21
theorem sv_us_nx {T S : Nat → Nat} {J : Nat → Option Nat} (hc : sv_CM T S) (h : sv_V T S J) {n : Nat} (hn : sv_us S n) : sv_us S (sv_nx T J n) := by
  cases e : J n with
  | some m => rw [sv_nx_s e]; exact h.1 n m hn e
  | none =>
    rw [sv_nx_n e]
    by_cases z : n < 18 ∧ 5 ≤ T n
    · rw [sv_b_t z.1 z.2]
      have := hc.2.2.2.2 n
      exact Or.inr (Or.inr ⟨by omega, by omega⟩)
    · rw [sv_b_f z]; exact hn
theorem sv_us_go {T S : Nat → Nat} {J : Nat → Option Nat} (hc : sv_CM T S) (h : sv_V T S J) : ∀ k n, sv_us S n → sv_us S (sv_go T J k n)
  | 0, _, hn => hn
  | k + 1, _, hn => sv_us_go hc h k _ (sv_us_nx hc h hn)
theorem sv_us_fd {T S : Nat → Nat} {J : Nat → Option Nat} (hc : sv_CM T S) (h : sv_V T S J) {n : Nat} (hn : sv_us S n) : sv_us S (sv_fd T J n) := sv_us_go hc h 24 n hn
theorem sv_fd_e {T S : Nat → Nat} {J : Nat → Option Nat} (h : sv_V T S J) {n : Nat} (hn : sv_us S n) : sv_fd T J n = sv_go T J (22 - sv_nr T S J) n := sv_go_k (h.2.2.1 n hn) (by omega)
theorem sv_fd_r {T S : Nat → Nat} {J : Nat → Option Nat} (h : sv_V T S J) {n : Nat} (hn : sv_us S n) : sv_rt T J (sv_fd T J n) := by
  rw [sv_fd_e h hn]
  exact h.2.2.1 n hn
theorem sv_fd_nx {T S : Nat → Nat} {J : Nat → Option Nat} (h : sv_V T S J) {n : Nat} (hn : sv_us S n) : sv_fd T J (sv_nx T J n) = sv_fd T J n := by
  have e : sv_fd T J (sv_nx T J n) = sv_go T J (24 + 1) n := rfl
  rw [e, sv_go_a]
  exact sv_go_r (sv_fd_r h hn) 1
theorem sv_fd_id {T : Nat → Nat} {J : Nat → Option Nat} {n : Nat} (h : sv_rt T J n) : sv_fd T J n = n := sv_go_r h 24
/-- one join -/
theorem sv_go_j {T : Nat → Nat} {J : Nat → Option Nat} {x y : Nat} (hx : sv_rt T J x) (hy : sv_rt T J y) (hxy : x ≠ y) :
    ∀ k n, sv_rt T J (sv_go T J k n) → sv_go T (sv_uo J x y) (k + 1) n = (if sv_go T J k n = x then y else sv_go T J k n) := by
  have ry : sv_rt T (sv_uo J x y) y := ⟨by rw [sv_uon (fun e => hxy e.symm)]; exact hy.1, hy.2⟩
  have nxx : sv_nx T (sv_uo J x y) x = y := sv_nx_s sv_uos
  have nxn : ∀ n, n ≠ x → sv_nx T (sv_uo J x y) n = sv_nx T J n := by
    intro n hn
    unfold sv_nx
    rw [sv_uon hn]
  intro k
  induction k with
  | zero =>
    intro n hn
    show sv_nx T (sv_uo J x y) n = if n = x then y else n
    by_cases e : n = x
    · rw [if_pos e, e, nxx]
    · rw [if_neg e, nxn n e]
      exact sv_nx_r hn
  | succ k ih =>
    intro n hn
    by_cases e : n = x
    · subst e
      have e1 : sv_go T J (k + 1) n = n := sv_go_r hx _
      rw [e1, if_pos rfl]
      show sv_go T (sv_uo J n y) (k + 1) (sv_nx T (sv_uo J n y) n) = y
      rw [nxx]
      exact sv_go_r ry _
    · show sv_go T (sv_uo J x y) (k + 1) (sv_nx T (sv_uo J x y) n) = if sv_go T J k (sv_nx T J n) = x then y else sv_go T J k (sv_nx T J n)
      rw [nxn n e]
      exact ih _ hn
theorem sv_V_j {T S : Nat → Nat} {J : Nat → Option Nat} (hc : sv_CM T S) (h : sv_V T S J) {x y : Nat} (ux : sv_us S x) (uy : sv_us S y) (hx : sv_rt T J x) (hy : sv_rt T J y) (hxy : x ≠ y)
    (hk : x < 18 → y < 18 ∧ T y = T x) :
    sv_V T S (sv_uo J x y) ∧ sv_nr T S J = sv_nr T S (sv_uo J x y) + 1 ∧ ∀ n, sv_us S n → sv_fd T (sv_uo J x y) n = if sv_fd T J n = x then y else sv_fd T J n := by
  have ry : sv_rt T (sv_uo J x y) y := ⟨by rw [sv_uon (fun e => hxy e.symm)]; exact hy.1, hy.2⟩
  have rn : ∀ n, n ≠ x → sv_rt T J n → sv_rt T (sv_uo J x y) n := fun n hn r => ⟨by rw [sv_uon hn]; exact r.1, r.2⟩
  have hr : sv_nr T S J = sv_nr T S (sv_uo J x y) + 1 := by
    unfold sv_nr
    refine sv_ct_1 (a := x) (sv_rb_t ux hx) (sv_rb_f ?_) (sv_us_lt hc ux) ?_
    · rintro ⟨_, q, _⟩
      rw [sv_uos] at q
      exact absurd q (by simp)
    · intro i _ hi
      have e : sv_rt T J i ↔ sv_rt T (sv_uo J x y) i := by
        unfold sv_rt
        rw [sv_uon hi]
      apply sv_beq
      constructor
      · intro z
        obtain ⟨a, b⟩ := sv_rb_i z
        exact sv_rb_t a (e.mp b)
      · intro z
        obtain ⟨a, b⟩ := sv_rb_i z
        exact sv_rb_t a (e.mpr b)
  have p1 : 1 ≤ sv_nr T S (sv_uo J x y) := sv_ct_pos (sv_rb_t uy ry) (sv_us_lt hc uy)
  have hle := h.2.2.2.2
  have ek : 22 - sv_nr T S (sv_uo J x y) = (22 - sv_nr T S J) + 1 := by omega
  have gj := fun n (hn : sv_us S n) => sv_go_j hx hy hxy (22 - sv_nr T S J) n (h.2.2.1 n hn)
  have root' : ∀ n, sv_us S n → sv_rt T (sv_uo J x y) (sv_go T (sv_uo J x y) (22 - sv_nr T S (sv_uo J x y)) n) := by
    intro n hn
    rw [ek, gj n hn]
    by_cases e : sv_go T J (22 - sv_nr T S J) n = x
    · rw [if_pos e]; exact ry
    · rw [if_neg e]; exact rn _ e (h.2.2.1 n hn)
  refine ⟨⟨?_, ?_, root', p1, by omega⟩, hr, ?_⟩
  · intro n m hn e
    by_cases z : n = x
    · subst z
      rw [sv_uos] at e
      exact Option.some.inj e ▸ uy
    · rw [sv_uon z] at e
      exact h.1 n m hn e
  · intro n m hn h18 e
    by_cases z : n = x
    · subst z
      rw [sv_uos] at e
      have e' : y = m := Option.some.inj e
      subst e'
      obtain ⟨a, b⟩ := hk h18
      refine ⟨a, ?_, b⟩
      have := hx.2
      omega
    · rw [sv_uon z] at e
      exact h.2.1 n m hn h18 e
  · intro n hn
    have e1 : sv_fd T (sv_uo J x y) n = sv_go T (sv_uo J x y) (22 - sv_nr T S (sv_uo J x y)) n := sv_go_k (root' n hn) (by omega)
    rw [e1, ek, gj n hn, sv_fd_e h hn]
/-! what the joining keeps -/
def sv_Lk (T S : Nat → Nat) (J : Nat → Option Nat) (d : Nat → Nat) : Prop := ∀ n m, sv_us S n → J n = some m → sv_W T d m = sv_W T d n
theorem sv_Lk_nx {T S : Nat → Nat} {J : Nat → Option Nat} {d : Nat → Nat} (h : sv_Lk T S J d) {n : Nat} (hn : sv_us S n) : sv_W T d (sv_nx T J n) = sv_W T d n := by
  cases e : J n with
  | some m => rw [sv_nx_s e]; exact h n m hn e
  | none =>
    rw [sv_nx_n e]
    by_cases z : n < 18 ∧ 5 ≤ T n
    · rw [sv_b_t z.1 z.2, sv_W_x z.1 z.2]
      have e2 : 13 + T n = 18 + (T n - 5) := by omega
      rw [e2, sv_W_v]
    · rw [sv_b_f z]
theorem sv_Lk_go {T S : Nat → Nat} {J : Nat → Option Nat} {d : Nat → Nat} (hc : sv_CM T S) (hv : sv_V T S J) (h : sv_Lk T S J d) : ∀ k n, sv_us S n → sv_W T d (sv_go T J k n) = sv_W T d n
  | 0, _, _ => rfl
  | k + 1, n, hn => by
    show sv_W T d (sv_go T J k (sv_nx T J n)) = _
    rw [sv_Lk_go hc hv h k _ (sv_us_nx hc hv hn), sv_Lk_nx h hn]
theorem sv_Lk_fd {T S : Nat → Nat} {J : Nat → Option Nat} {d : Nat → Nat} (hc : sv_CM T S) (hv : sv_V T S J) (h : sv_Lk T S J d) {n : Nat} (hn : sv_us S n) : sv_W T d (sv_fd T J n) = sv_W T d n := sv_Lk_go hc hv h 24 n hn
def sv_tE (T d : Nat → Nat) (L : List (Nat × Nat)) : Prop := ∀ a b, (a, b) ∈ L → sv_W T d a = sv_W T d b
def sv_ch (T S : Nat → Nat) (J : Nat → Option Nat) (L : List (Nat × Nat)) : Prop := ∀ n m, sv_us S n → n < 18 → J n = some m →
  (T n < 2 → sv_fd T J (n + 1) = sv_fd T J (m + 1) ∨ (n + 1, m + 1) ∈ L) ∧ (T n = 1 → sv_fd T J (sv_R T n) = sv_fd T J (sv_R T m) ∨ (sv_R T n, sv_R T m) ∈ L)
def sv_JI (T S : Nat → Nat) (J : Nat → Option Nat) (L : List (Nat × Nat)) : Prop :=
  sv_V T S J ∧ (∀ a b, (a, b) ∈ L → sv_us S a ∧ sv_us S b) ∧ sv_ch T S J L ∧
  (∀ d, sv_W T d 0 = sv_W T d 9 → sv_Lk T S J d ∧ sv_tE T d L) ∧ (∀ d, sv_Lk T S J d → sv_tE T d L → sv_W T d 0 = sv_W T d 9)
/-- children of used nodes are used -/
theorem sv_kid1 {T S : Nat → Nat} (hc : sv_CM T S) {n : Nat} (hn : sv_us S n) (h : n < 18) (ht : T n < 2) : sv_us S (n + 1) ∧ n + 1 < 18 := by
  rcases Nat.eq_zero_or_pos (T n) with y | y
  · have := sv_nd_f hc hn h y
    exact ⟨this.1, this.2.1⟩
  · have := sv_nd_g hc hn h (by omega)
    exact ⟨this.1, this.2.1⟩
theorem sv_kid2 {T S : Nat → Nat} (hc : sv_CM T S) {n : Nat} (hn : sv_us S n) (h : n < 18) (ht : T n = 1) : sv_us S (sv_R T n) ∧ sv_R T n < 18 ∧ n + 1 < sv_R T n := by
  have := sv_nd_g hc hn h ht
  exact ⟨this.2.2.1, this.2.2.2.1, this.2.2.2.2.1⟩
theorem sv_J_same {T S : Nat → Nat} {J : Nat → Option Nat} {L : List (Nat × Nat)} {a b : Nat} (hc : sv_CM T S) (h : sv_JI T S J ((a, b) :: L)) (e : sv_fd T J a = sv_fd T J b) : sv_JI T S J L := by
  obtain ⟨v, u, c, p, q⟩ := h
  have uab := u a b List.mem_cons_self
  refine ⟨v, fun a' b' hm => u a' b' (List.mem_cons_of_mem _ hm), ?_, ?_, ?_⟩
  · intro n m hn h18 hj
    obtain ⟨c1, c2⟩ := c n m hn h18 hj
    refine ⟨fun ht => ?_, fun ht => ?_⟩
    · rcases c1 ht with z | z
      · exact Or.inl z
      · rcases List.mem_cons.mp z with y | y
        · obtain ⟨y1, y2⟩ := Prod.mk.inj y
          rw [y1, y2]
          exact Or.inl e
        · exact Or.inr y
    · rcases c2 ht with z | z
      · exact Or.inl z
      · rcases List.mem_cons.mp z with y | y
        · obtain ⟨y1, y2⟩ := Prod.mk.inj y
          rw [y1, y2]
          exact Or.inl e
        · exact Or.inr y
  · intro d hd
    obtain ⟨l, t⟩ := p d hd
    exact ⟨l, fun a' b' hm => t a' b' (List.mem_cons_of_mem _ hm)⟩
  · intro d l t
    refine q d l fun a' b' hm => ?_
    rcases List.mem_cons.mp hm with y | y
    · obtain ⟨rfl, rfl⟩ := Prod.mk.inj y
      rw [← sv_Lk_fd hc v l uab.1, ← sv_Lk_fd hc v l uab.2, e]
    · exact t a' b' y
/-- the common part of the three joins: x gets the link to y, K are the pairs that are left to be joined -/
theorem sv_J_join {T S : Nat → Nat} {J : Nat → Option Nat} {L K : List (Nat × Nat)} {a b x y : Nat} (hc : sv_CM T S) (h : sv_JI T S J ((a, b) :: L))
    (ex : (sv_fd T J a = x ∧ sv_fd T J b = y) ∨ (sv_fd T J a = y ∧ sv_fd T J b = x)) (hxy : x ≠ y) (hk : x < 18 → y < 18 ∧ T y = T x)
    (uK : ∀ a' b', (a', b') ∈ K → sv_us S a' ∧ sv_us S b')
    (c1 : x < 18 → T x < 2 → (x + 1, y + 1) ∈ K) (c2 : x < 18 → T x = 1 → (sv_R T x, sv_R T y) ∈ K)
    (wK : ∀ d, sv_W T d x = sv_W T d y → sv_tE T d K) : sv_JI T S (sv_uo J x y) (K ++ L) ∧ sv_nr T S J = sv_nr T S (sv_uo J x y) + 1 := by
  obtain ⟨v, u, c, p, q⟩ := h
  have uab := u a b List.mem_cons_self
  have rx : sv_us S x ∧ sv_rt T J x ∧ sv_us S y ∧ sv_rt T J y := by
    rcases ex with ⟨e1, e2⟩ | ⟨e1, e2⟩
    · exact ⟨e1 ▸ sv_us_fd hc v uab.1, e1 ▸ sv_fd_r v uab.1, e2 ▸ sv_us_fd hc v uab.2, e2 ▸ sv_fd_r v uab.2⟩
    · exact ⟨e2 ▸ sv_us_fd hc v uab.2, e2 ▸ sv_fd_r v uab.2, e1 ▸ sv_us_fd hc v uab.1, e1 ▸ sv_fd_r v uab.1⟩
  obtain ⟨ux, rtx, uy, rty⟩ := rx
  obtain ⟨v', hr, hf⟩ := sv_V_j hc v ux uy rtx rty hxy hk
  have keep : ∀ i j, sv_us S i → sv_us S j → sv_fd T J i = sv_fd T J j → sv_fd T (sv_uo J x y) i = sv_fd T (sv_uo J x y) j := by
    intro i j ui uj e
    rw [hf i ui, hf j uj, e]
  have fab : sv_fd T (sv_uo J x y) a = sv_fd T (sv_uo J x y) b := by
    rw [hf a uab.1, hf b uab.2]
    rcases ex with ⟨e1, e2⟩ | ⟨e1, e2⟩
    · rw [e1, e2, if_pos rfl, if_neg (fun e => hxy e.symm)]
    · rw [e1, e2, if_pos rfl, if_neg (fun e => hxy e.symm)]
  refine ⟨⟨v', ?_, ?_, ?_, ?_⟩, hr⟩
  · intro a' b' hm
    rcases List.mem_append.mp hm with z | z
    · exact uK a' b' z
    · exact u a' b' (List.mem_cons_of_mem _ z)
  · intro n m hn h18 hj
    by_cases z : n = x
    · subst z
      rw [sv_uos] at hj
      have e' : y = m := Option.some.inj hj
      subst e'
      exact ⟨fun ht => Or.inr (List.mem_append.mpr (Or.inl (c1 h18 ht))), fun ht => Or.inr (List.mem_append.mpr (Or.inl (c2 h18 ht)))⟩
    · rw [sv_uon z] at hj
      obtain ⟨d1, d2⟩ := c n m hn h18 hj
      obtain ⟨m18, _, em⟩ := v.2.1 n m hn h18 hj
      have um := v.1 n m hn hj
      refine ⟨fun ht => ?_, fun ht => ?_⟩
      · rcases d1 ht with w | w
        · exact Or.inl (keep _ _ (sv_kid1 hc hn h18 ht).1 (sv_kid1 hc um m18 (by omega)).1 w)
        · rcases List.mem_cons.mp w with r | r
          · obtain ⟨r1, r2⟩ := Prod.mk.inj r
            rw [r1, r2]
            exact Or.inl fab
          · exact Or.inr (List.mem_append.mpr (Or.inr r))
      · rcases d2 ht with w | w
        · exact Or.inl (keep _ _ (sv_kid2 hc hn h18 ht).1 (sv_kid2 hc um m18 (by omega)).1 w)
        · rcases List.mem_cons.mp w with r | r
          · obtain ⟨r1, r2⟩ := Prod.mk.inj r
            rw [r1, r2]
            exact Or.inl fab
          · exact Or.inr (List.mem_append.mpr (Or.inr r))
  · intro d hd
    obtain ⟨l, t⟩ := p d hd
    have wab := t a b List.mem_cons_self
    have wxy : sv_W T d x = sv_W T d y := by
      rcases ex with ⟨e1, e2⟩ | ⟨e1, e2⟩
      · rw [← e1, ← e2, sv_Lk_fd hc v l uab.1, sv_Lk_fd hc v l uab.2, wab]
      · rw [← e1, ← e2, sv_Lk_fd hc v l uab.1, sv_Lk_fd hc v l uab.2, wab]
    refine ⟨?_, ?_⟩
    · intro n m hn hj
      by_cases z : n = x
      · subst z
        rw [sv_uos] at hj
        have e' : y = m := Option.some.inj hj
        subst e'
        exact wxy.symm
      · rw [sv_uon z] at hj
        exact l n m hn hj
    · intro a' b' hm
      rcases List.mem_append.mp hm with z | z
      · exact wK d wxy a' b' z
      · exact t a' b' (List.mem_cons_of_mem _ z)
  · intro d l t
    have l0 : sv_Lk T S J d := by
      intro n m hn hj
      have nx : n ≠ x := by
        intro e
        subst e
        rw [rtx.1] at hj
        exact absurd hj (by simp)
      exact l n m hn (by rw [sv_uon nx]; exact hj)
    have wyx : sv_W T d y = sv_W T d x := l x y ux sv_uos
    refine q d l0 fun a' b' hm => ?_
    rcases List.mem_cons.mp hm with z | z
    · obtain ⟨rfl, rfl⟩ := Prod.mk.inj z
      rw [← sv_Lk_fd hc v l0 uab.1, ← sv_Lk_fd hc v l0 uab.2]
      rcases ex with ⟨e1, e2⟩ | ⟨e1, e2⟩
      · rw [e1, e2, wyx]
      · rw [e1, e2, wyx]
    · exact t a' b' (List.mem_append.mpr (Or.inr z))
theorem sv_J_head {T S : Nat → Nat} {d : Nat → Nat} (hc : sv_CM T S) {x : Nat} (ux : sv_us S x) (h : x < 18) (h5 : T x < 5) : ∃ l, sv_W T d x = T x :: l := by
  rcases Nat.lt_or_ge (T x) 2 with z | z
  · rcases Nat.eq_zero_or_pos (T x) with y | y
    · exact ⟨_, by rw [sv_W_f hc ux h y, y]⟩
    · have y1 : T x = 1 := by omega
      exact ⟨_, by rw [sv_W_g hc ux h y1, y1]⟩
  · exact ⟨_, sv_W_k h z h5⟩
theorem sv_J_clash {T S : Nat → Nat} {J : Nat → Option Nat} {L : List (Nat × Nat)} {a b : Nat} (hc : sv_CM T S) (h : sv_JI T S J ((a, b) :: L))
    (hx : sv_fd T J a < 18) (hy : sv_fd T J b < 18) (ne : T (sv_fd T J a) ≠ T (sv_fd T J b)) : ∀ d, sv_W T d 0 ≠ sv_W T d 9 := by
  obtain ⟨v, u, c, p, q⟩ := h
  have uab := u a b List.mem_cons_self
  intro d hd
  obtain ⟨l, t⟩ := p d hd
  have wab := t a b List.mem_cons_self
  rw [← sv_Lk_fd hc v l uab.1, ← sv_Lk_fd hc v l uab.2] at wab
  have rx := sv_fd_r v uab.1
  have ry := sv_fd_r v uab.2
  obtain ⟨l1, e1⟩ := sv_J_head (d := d) hc (sv_us_fd hc v uab.1) hx (by have := rx.2; omega)
  obtain ⟨l2, e2⟩ := sv_J_head (d := d) hc (sv_us_fd hc v uab.2) hy (by have := ry.2; omega)
  rw [e1, e2] at wab
  exact ne (List.cons.inj wab).1
/-- the parts that push leaves: left on top, right below -/
noncomputable def sv_pr (T : Nat → Nat) (x y : Nat) : List (Nat × Nat) := (if T x < 2 then [(x + 1, y + 1)] else []) ++ (if T x = 1 then [(sv_R T x, sv_R T y)] else [])
theorem sv_pr_m {T : Nat → Nat} {x y a b : Nat} (h : (a, b) ∈ sv_pr T x y) : (T x < 2 ∧ a = x + 1 ∧ b = y + 1) ∨ (T x = 1 ∧ a = sv_R T x ∧ b = sv_R T y) := by
  unfold sv_pr at h
  rcases List.mem_append.mp h with z | z
  · split at z
    · rename_i ht
      have := List.mem_singleton.mp z
      obtain ⟨e1, e2⟩ := Prod.mk.inj this
      exact Or.inl ⟨ht, e1, e2⟩
    · exact absurd z List.not_mem_nil
  · split at z
    · rename_i ht
      have := List.mem_singleton.mp z
      obtain ⟨e1, e2⟩ := Prod.mk.inj this
      exact Or.inr ⟨ht, e1, e2⟩
    · exact absurd z List.not_mem_nil
theorem sv_pr_1 {T : Nat → Nat} {x y : Nat} (h : T x < 2) : (x + 1, y + 1) ∈ sv_pr T x y := by
  unfold sv_pr
  rw [if_pos h]
  exact List.mem_append.mpr (Or.inl (List.mem_singleton.mpr rfl))
theorem sv_pr_2 {T : Nat → Nat} {x y : Nat} (h : T x = 1) : (sv_R T x, sv_R T y) ∈ sv_pr T x y := by
  unfold sv_pr
  rw [if_pos h]
  exact List.mem_append.mpr (Or.inr (List.mem_singleton.mpr rfl))
theorem sv_J_fun {T S : Nat → Nat} {J : Nat → Option Nat} {L : List (Nat × Nat)} {a b x y : Nat} (hc : sv_CM T S) (h : sv_JI T S J ((a, b) :: L))
    (ex : sv_fd T J a = x) (ey : sv_fd T J b = y) (hx : x < 18) (hy : y < 18) (ne : x ≠ y) (et : T x = T y) :
    sv_JI T S (sv_uo J x y) (sv_pr T x y ++ L) ∧ sv_nr T S J = sv_nr T S (sv_uo J x y) + 1 := by
  have v := h.1
  have uab := h.2.1 a b List.mem_cons_self
  have ux : sv_us S x := ex ▸ sv_us_fd hc v uab.1
  have uy : sv_us S y := ey ▸ sv_us_fd hc v uab.2
  refine sv_J_join hc h (Or.inl ⟨ex, ey⟩) ne (fun _ => ⟨hy, et.symm⟩) ?_ (fun _ ht => sv_pr_1 ht) (fun _ ht => sv_pr_2 ht) ?_
  · intro a' b' hm
    rcases sv_pr_m hm with ⟨ht, e1, e2⟩ | ⟨ht, e1, e2⟩
    · rw [e1, e2]
      exact ⟨(sv_kid1 hc ux hx ht).1, (sv_kid1 hc uy hy (by omega)).1⟩
    · rw [e1, e2]
      exact ⟨(sv_kid2 hc ux hx ht).1, (sv_kid2 hc uy hy (by omega)).1⟩
  · intro d hw a' b' hm
    rcases sv_pr_m hm with ⟨ht, e1, e2⟩ | ⟨ht, e1, e2⟩
    · rw [e1, e2]
      rcases Nat.eq_zero_or_pos (T x) with z | z
      · rw [sv_W_f hc ux hx z, sv_W_f hc uy hy (by omega)] at hw
        exact (List.cons.inj hw).2
      · rw [sv_W_g hc ux hx (by omega), sv_W_g hc uy hy (by omega)] at hw
        exact (sv_Pf_u (sv_WP hc (sv_kid1 hc ux hx ht).1) (sv_WP hc (sv_kid1 hc uy hy (by omega)).1) (List.cons.inj hw).2).1
    · rw [e1, e2]
      rw [sv_W_g hc ux hx (by omega), sv_W_g hc uy hy (by omega)] at hw
      exact (sv_Pf_u (sv_WP hc (sv_kid1 hc ux hx (by omega)).1) (sv_WP hc (sv_kid1 hc uy hy (by omega)).1) (List.cons.inj hw).2).2
theorem sv_J_var1 {T S : Nat → Nat} {J : Nat → Option Nat} {L : List (Nat × Nat)} {a b x y : Nat} (hc : sv_CM T S) (h : sv_JI T S J ((a, b) :: L))
    (ex : sv_fd T J a = x) (ey : sv_fd T J b = y) (hx : 18 ≤ x) (ne : x ≠ y) :
    sv_JI T S (sv_uo J x y) L ∧ sv_nr T S J = sv_nr T S (sv_uo J x y) + 1 :=
  sv_J_join (K := []) hc h (Or.inl ⟨ex, ey⟩) ne (fun z => absurd z (by omega)) (fun _ _ hm => absurd hm List.not_mem_nil) (fun z => absurd z (by omega)) (fun z => absurd z (by omega)) (fun _ _ _ _ hm => absurd hm List.not_mem_nil)
theorem sv_J_var2 {T S : Nat → Nat} {J : Nat → Option Nat} {L : List (Nat × Nat)} {a b x y : Nat} (hc : sv_CM T S) (h : sv_JI T S J ((a, b) :: L))
    (ex : sv_fd T J a = x) (ey : sv_fd T J b = y) (hy : 18 ≤ y) (ne : x ≠ y) :
    sv_JI T S (sv_uo J y x) L ∧ sv_nr T S J = sv_nr T S (sv_uo J y x) + 1 :=
  sv_J_join (K := []) hc h (Or.inr ⟨ex, ey⟩) (fun e => ne e.symm) (fun z => absurd z (by omega)) (fun _ _ hm => absurd hm List.not_mem_nil) (fun z => absurd z (by omega)) (fun z => absurd z (by omega)) (fun _ _ _ _ hm => absurd hm List.not_mem_nil)
/-- the beginning: no links, the two terms to be joined -/
theorem sv_J_0 {T S : Nat → Nat} (hc : sv_CM T S) : sv_JI T S (fun _ => none) [(0, 9)] := by
  have s0 := sv_Tm_pos hc.2.2.1
  have s1 := sv_Tm_pos hc.2.2.2.1
  have r18 : ∀ v, v < 3 → sv_rt T (fun _ => none) (18 + v) := fun v _ => ⟨rfl, fun z => by omega⟩
  have g1 : ∀ n, sv_us S n → sv_rt T (fun _ => none) (sv_nx T (fun _ => none) n) := by
    intro n hn
    have e : sv_nx T (fun _ => none) n = sv_b T n := rfl
    rw [e]
    by_cases z : n < 18 ∧ 5 ≤ T n
    · rw [sv_b_t z.1 z.2]
      exact ⟨rfl, fun q => by omega⟩
    · rw [sv_b_f z]
      exact ⟨rfl, z⟩
  have p1 : 1 ≤ sv_nr T S (fun _ => none) := sv_ct_pos (a := 18) (sv_rb_t (Or.inr (Or.inr ⟨by omega, by omega⟩)) (r18 0 (by omega))) (by omega)
  have p2 : sv_nr T S (fun _ => none) ≤ 21 := sv_ct_le _ 21
  refine ⟨⟨fun _ _ _ e => absurd e (by simp), fun _ _ _ _ e => absurd e (by simp), ?_, p1, p2⟩, ?_, fun _ _ _ _ e => absurd e (by simp), ?_, ?_⟩
  · intro n hn
    have e : sv_go T (fun _ => none) (22 - sv_nr T S (fun _ => none)) n = sv_go T (fun _ => none) 1 n := sv_go_k (g1 n hn) (by omega)
    rw [e]
    exact g1 n hn
  · intro a b hm
    obtain ⟨rfl, rfl⟩ := Prod.mk.inj (List.mem_singleton.mp hm)
    exact ⟨Or.inl s0, Or.inr (Or.inl ⟨by omega, by omega⟩)⟩
  · intro d hd
    refine ⟨fun _ _ _ e => absurd e (by simp), fun a b hm => ?_⟩
    obtain ⟨rfl, rfl⟩ := Prod.mk.inj (List.mem_singleton.mp hm)
    exact hd
  · intro d _ t
    exact t 0 9 List.mem_cons_self
/-- the end -/
def sv_UF (T S : Nat → Nat) (J : Nat → Option Nat) : Prop :=
  sv_V T S J ∧ (∀ n m, sv_us S n → n < 18 → J n = some m → (T n < 2 → sv_fd T J (n + 1) = sv_fd T J (m + 1)) ∧ (T n = 1 → sv_fd T J (sv_R T n) = sv_fd T J (sv_R T m))) ∧
  (∀ d, sv_W T d 0 = sv_W T d 9 ↔ sv_Lk T S J d)
theorem sv_J_end {T S : Nat → Nat} {J : Nat → Option Nat} (h : sv_JI T S J []) : sv_UF T S J := by
  obtain ⟨v, u, c, p, q⟩ := h
  refine ⟨v, ?_, fun d => ⟨fun e => (p d e).1, fun l => q d l fun _ _ hm => absurd hm List.not_mem_nil⟩⟩
  intro n m hn h18 hj
  obtain ⟨c1, c2⟩ := c n m hn h18 hj
  refine ⟨fun ht => ?_, fun ht => ?_⟩
  · rcases c1 ht with z | z
    · exact z
    · exact absurd z List.not_mem_nil
  · rcases c2 ht with z | z
    · exact z
    · exact absurd z List.not_mem_nil
theorem sv_CC {T S : Nat → Nat} {J : Nat → Option Nat} (h : sv_UF T S J) : ∀ k n, sv_us S n → n < 18 → T n < 5 →
    sv_us S (sv_go T J k n) ∧ sv_go T J k n < 18 ∧ T (sv_go T J k n) = T n ∧ (T n < 2 → sv_fd T J (n + 1) = sv_fd T J (sv_go T J k n + 1)) ∧ (T n = 1 → sv_fd T J (sv_R T n) = sv_fd T J (sv_R T (sv_go T J k n))) := by
  intro k
  induction k with
  | zero => intro n hn h18 h5; exact ⟨hn, h18, rfl, fun _ => rfl, fun _ => rfl⟩
  | succ k ih =>
    intro n hn h18 h5
    cases e : J n with
    | none =>
      have e1 : sv_nx T J n = n := sv_nx_r ⟨e, fun z => by omega⟩
      have e2 : sv_go T J (k + 1) n = sv_go T J k n := by
        show sv_go T J k (sv_nx T J n) = _
        rw [e1]
      rw [e2]
      exact ih n hn h18 h5
    | some m =>
      have e2 : sv_go T J (k + 1) n = sv_go T J k m := by
        show sv_go T J k (sv_nx T J n) = _
        rw [sv_nx_s e]
      obtain ⟨m18, _, em⟩ := h.1.2.1 n m hn h18 e
      have um := h.1.1 n m hn e
      obtain ⟨a, b, c, f, g⟩ := ih m um m18 (by omega)
      obtain ⟨f', g'⟩ := h.2.1 n m hn h18 e
      rw [e2]
      exact ⟨a, b, c.trans em, fun ht => (f' ht).trans (f (by omega)), fun ht => (g' ht).trans (g (by omega))⟩
end
section
/-! the things of nodes: 0 not worked out, 1 none of the fifteen, t + 2 the thing t -/
def sv_k4 (x : Nat) : Prop := 2 ≤ x ∧ x ≤ 4
noncomputable def sv_hb (T : Nat → Nat) (J : Nat → Option Nat) (H : Nat → Nat) (p : Nat) : Nat := if T p = 1 then H (sv_fd T J (sv_R T p)) else 2
theorem sv_hb_1 {T : Nat → Nat} {J : Nat → Option Nat} {H : Nat → Nat} {p : Nat} (h : T p = 1) : sv_hb T J H p = H (sv_fd T J (sv_R T p)) := if_pos h
theorem sv_hb_0 {T : Nat → Nat} {J : Nat → Option Nat} {H : Nat → Nat} {p : Nat} (h : ¬ T p = 1) : sv_hb T J H p = 2 := if_neg h
def sv_HF (T S : Nat → Nat) (J : Nat → Option Nat) (H : Nat → Nat) : Prop := ∀ p, sv_us S p → p < 18 → sv_rt T J p →
  (2 ≤ T p → H p = T p) ∧
  (T p = 0 → (sv_k4 (H (sv_fd T J (p + 1))) → H p = H (sv_fd T J (p + 1)) + 3) ∧ (¬ sv_k4 (H (sv_fd T J (p + 1))) → H p < 2)) ∧
  (T p = 1 → (sv_k4 (H (sv_fd T J (p + 1))) ∧ sv_k4 (H (sv_fd T J (sv_R T p))) → H p = 3 * H (sv_fd T J (p + 1)) + H (sv_fd T J (sv_R T p))) ∧
    (¬ (sv_k4 (H (sv_fd T J (p + 1))) ∧ sv_k4 (H (sv_fd T J (sv_R T p)))) → H p < 2))
theorem sv_tw3 {t : Nat} (h : t < 3) : sv_tw t = [2 + t] := if_pos h
theorem sv_tw6 {t : Nat} (h : 3 ≤ t) (h6 : t < 6) : sv_tw t = [0, t - 1] := by
  unfold sv_tw
  rw [if_neg (by omega), if_pos h6]
theorem sv_tw9 {t : Nat} (h : 6 ≤ t) : sv_tw t = [1, 2 + (t - 6) / 3, 2 + (t - 6) % 3] := by
  unfold sv_tw
  rw [if_neg (by omega), if_neg (by omega)]
/-- a variable's token or node -/
theorem sv_vr {T S : Nat → Nat} {J : Nat → Option Nat} (hc : sv_CM T S) (hv : sv_V T S J) {n : Nat} (hn : sv_us S n) (h : ¬ (n < 18 ∧ T n < 5)) :
    ∃ v, v < 3 ∧ sv_fd T J n = sv_fd T J (18 + v) ∧ ∀ d, sv_W T d n = sv_tw (d v) := by
  have h21 := sv_us_lt hc hn
  rcases Nat.lt_or_ge n 18 with z | z
  · have h5 : 5 ≤ T n := by omega
    have h8 := hc.2.2.2.2 n
    have ej : J n = none := by
      cases e : J n with
      | none => rfl
      | some m =>
        have := (hv.2.1 n m hn z e).2.1
        omega
    refine ⟨T n - 5, by omega, ?_, fun d => sv_W_x z h5⟩
    rw [← sv_fd_nx hv hn, sv_nx_n ej, sv_b_t z h5]
    have e2 : 13 + T n = 18 + (T n - 5) := by omega
    rw [e2]
  · obtain ⟨v, rfl⟩ : ∃ v, n = 18 + v := ⟨n - 18, by omega⟩
    exact ⟨v, by omega, rfl, fun d => sv_W_v v⟩
/-- a token that is no variable: what it was joined with -/
theorem sv_cl2 {T S : Nat → Nat} {J : Nat → Option Nat} (h : sv_UF T S J) {n : Nat} (hn : sv_us S n) (h18 : n < 18) (h5 : T n < 5) :
    sv_us S (sv_fd T J n) ∧ sv_fd T J n < 18 ∧ sv_rt T J (sv_fd T J n) ∧ T (sv_fd T J n) = T n ∧ (T n < 2 → sv_fd T J (n + 1) = sv_fd T J (sv_fd T J n + 1)) ∧ (T n = 1 → sv_fd T J (sv_R T n) = sv_fd T J (sv_R T (sv_fd T J n))) := by
  obtain ⟨a, b, c, f, g⟩ := sv_CC h 24 n hn h18 h5
  exact ⟨a, b, sv_fd_r h.1 hn, c, f, g⟩
theorem sv_tA {T S : Nat → Nat} {J : Nat → Option Nat} {H d : Nat → Nat} (hc : sv_CM T S) (hu : sv_UF T S J) (hh : sv_HF T S J H) (hd : ∀ v, v < 3 → H (sv_fd T J (18 + v)) = d v + 2)
    {n : Nat} (hn : sv_us S n) (hk : sv_k4 (H (sv_fd T J n))) : sv_W T d n = [H (sv_fd T J n)] := by
  by_cases z : n < 18 ∧ T n < 5
  · obtain ⟨a, b, r, e, f, g⟩ := sv_cl2 hu hn z.1 z.2
    obtain ⟨x2, x0, x1⟩ := hh _ a b r
    rw [e] at x2 x0 x1
    have hk1 := hk.1
    have hk2 := hk.2
    rcases Nat.lt_or_ge (T n) 2 with y | y
    · exfalso
      rcases Nat.eq_zero_or_pos (T n) with w | w
      · rcases Classical.em (sv_k4 (H (sv_fd T J (sv_fd T J n + 1)))) with q | q
        · have := (x0 w).1 q
          have := q.1
          omega
        · have := (x0 w).2 q
          omega
      · rcases Classical.em (sv_k4 (H (sv_fd T J (sv_fd T J n + 1))) ∧ sv_k4 (H (sv_fd T J (sv_R T (sv_fd T J n))))) with q | q
        · have := (x1 (by omega)).1 q
          have := q.1.1
          omega
        · have := (x1 (by omega)).2 q
          omega
    · rw [sv_W_k z.1 y z.2, x2 y]
  · obtain ⟨v, hv, ef, ew⟩ := sv_vr hc hu.1 hn z
    have := hd v hv
    have hk2 := hk.2
    rw [ef, this] at hk2
    rw [ew d, ef, this, sv_tw3 (by omega), Nat.add_comm]
theorem sv_tB {T S : Nat → Nat} {J : Nat → Option Nat} {H d : Nat → Nat} (hc : sv_CM T S) (hu : sv_UF T S J) (hh : sv_HF T S J H) (hd : ∀ v, v < 3 → H (sv_fd T J (18 + v)) = d v + 2)
    {n : Nat} (hn : sv_us S n) (hk : 2 ≤ H (sv_fd T J n)) : sv_W T d n = sv_tw (H (sv_fd T J n) - 2) := by
  by_cases z : n < 18 ∧ T n < 5
  · obtain ⟨a, b, r, e, f, g⟩ := sv_cl2 hu hn z.1 z.2
    obtain ⟨x2, x0, x1⟩ := hh _ a b r
    rw [e] at x2 x0 x1
    rcases Nat.lt_or_ge (T n) 2 with y | y
    · rcases Nat.eq_zero_or_pos (T n) with w | w
      · rcases Classical.em (sv_k4 (H (sv_fd T J (sv_fd T J n + 1)))) with q | q
        · have e1 := (x0 w).1 q
          have q1 := q.1
          have q2 := q.2
          have k1 := (sv_kid1 hc hn z.1 y).1
          have wa := sv_tA hc hu hh hd k1 (by rw [f y]; exact q)
          rw [f y] at wa
          rw [sv_W_f hc hn z.1 w, wa, e1, sv_tw6 (by omega) (by omega)]
          have e3 : H (sv_fd T J (sv_fd T J n + 1)) + 3 - 2 - 1 = H (sv_fd T J (sv_fd T J n + 1)) := by omega
          rw [e3]
        · have := (x0 w).2 q
          omega
      · have w1 : T n = 1 := by omega
        rcases Classical.em (sv_k4 (H (sv_fd T J (sv_fd T J n + 1))) ∧ sv_k4 (H (sv_fd T J (sv_R T (sv_fd T J n))))) with q | q
        · have e1 := (x1 w1).1 q
          obtain ⟨qa, qb⟩ := q
          have k1 := (sv_kid1 hc hn z.1 y).1
          have k2 := (sv_kid2 hc hn z.1 w1).1
          have wa := sv_tA hc hu hh hd k1 (by rw [f y]; exact qa)
          have wb := sv_tA hc hu hh hd k2 (by rw [g w1]; exact qb)
          rw [f y] at wa
          rw [g w1] at wb
          have a1 := qa.1
          have a2 := qa.2
          have b1 := qb.1
          have b2 := qb.2
          rw [sv_W_g hc hn z.1 w1, wa, wb, e1, sv_tw9 (by omega)]
          generalize H (sv_fd T J (sv_fd T J n + 1)) = A at *
          generalize H (sv_fd T J (sv_R T (sv_fd T J n))) = B at *
          have e3 : 2 + (3 * A + B - 2 - 6) / 3 = A := by omega
          have e4 : 2 + (3 * A + B - 2 - 6) % 3 = B := by omega
          rw [e3, e4]
          rfl
        · have := (x1 w1).2 q
          omega
    · rw [sv_W_k z.1 y z.2, x2 y, sv_tw3 (by omega)]
      have e3 : 2 + (T n - 2) = T n := by omega
      rw [e3]
  · obtain ⟨v, hv, ef, ew⟩ := sv_vr hc hu.1 hn z
    rw [ew d, ef, hd v hv, Nat.add_sub_cancel]
/-- soundness: what the free variables' things give is a solution -/
theorem sv_sound {T S : Nat → Nat} {J : Nat → Option Nat} {H d : Nat → Nat} (hc : sv_CM T S) (hu : sv_UF T S J) (hh : sv_HF T S J H) (hd : ∀ v, v < 3 → H (sv_fd T J (18 + v)) = d v + 2) : sv_W T d 0 = sv_W T d 9 := by
  have key : ∀ N m n, (21 - m) + (21 - n) < N → sv_us S m → sv_us S n → sv_fd T J m = sv_fd T J n → sv_W T d m = sv_W T d n := by
    intro N
    induction N with
    | zero => intro m n h; omega
    | succ N ih =>
      intro m n hN hm hn e
      rcases Nat.lt_or_ge (H (sv_fd T J m)) 2 with z | z
      · by_cases zm : m < 18 ∧ T m < 5
        · by_cases zn : n < 18 ∧ T n < 5
          · obtain ⟨_, _, _, em, fm, gm⟩ := sv_cl2 hu hm zm.1 zm.2
            obtain ⟨_, _, _, en, fn, gn⟩ := sv_cl2 hu hn zn.1 zn.2
            rw [e] at em fm gm
            have et : T m = T n := em.symm.trans en
            rcases Nat.lt_or_ge (T m) 2 with y | y
            · have km := sv_kid1 hc hm zm.1 y
              have kn := sv_kid1 hc hn zn.1 (by omega)
              have w1 := ih (m + 1) (n + 1) (by omega) km.1 kn.1 ((fm y).trans (fn (by omega)).symm)
              rcases Nat.eq_zero_or_pos (T m) with w | w
              · rw [sv_W_f hc hm zm.1 w, sv_W_f hc hn zn.1 (by omega), w1]
              · have jm := sv_kid2 hc hm zm.1 (by omega)
                have jn := sv_kid2 hc hn zn.1 (by omega)
                have w2 := ih _ _ (by omega) jm.1 jn.1 ((gm (by omega)).trans (gn (by omega)).symm)
                rw [sv_W_g hc hm zm.1 (by omega), sv_W_g hc hn zn.1 (by omega), w1, w2]
            · rw [sv_W_k zm.1 y zm.2, sv_W_k zn.1 (by omega) zn.2, et]
          · obtain ⟨v, hv, ef, _⟩ := sv_vr hc hu.1 hn zn
            rw [e, ef, hd v hv] at z
            omega
        · obtain ⟨v, hv, ef, _⟩ := sv_vr hc hu.1 hm zm
          rw [ef, hd v hv] at z
          omega
      · rw [sv_tB hc hu hh hd hm z, sv_tB hc hu hh hd hn (by rw [← e]; exact z), e]
  refine (hu.2.2 d).mpr ?_
  intro n m hn hj
  refine key _ m n (Nat.lt_succ_self _) (hu.1.1 n m hn hj) hn ?_
  rw [← sv_nx_s (T := T) hj]
  exact sv_fd_nx hu.1 hn
/-- completeness: a solution's things are what is worked out -/
theorem sv_cA {T S : Nat → Nat} {J : Nat → Option Nat} {H d : Nat → Nat} (hc : sv_CM T S) (hu : sv_UF T S J) (hh : sv_HF T S J H) (hl : sv_Lk T S J d) (h15 : ∀ v, v < 3 → d v < 15)
    (hd : ∀ v, v < 3 → J (18 + v) = none → H (18 + v) = d v + 2) {n c : Nat} (hn : sv_us S n) (h2 : 2 ≤ c) (h4 : c ≤ 4) (hw : sv_W T d n = [c]) : H (sv_fd T J n) = c := by
  have w := sv_Lk_fd hc hu.1 hl hn
  have ur := sv_us_fd hc hu.1 hn
  have rr := sv_fd_r hu.1 hn
  rw [hw] at w
  generalize sv_fd T J n = r at *
  have h21 := sv_us_lt hc ur
  rcases Nat.lt_or_ge r 18 with z | z
  · have h5 : T r < 5 := by have := rr.2; omega
    obtain ⟨x2, _, _⟩ := hh r ur z rr
    rcases Nat.lt_or_ge (T r) 2 with y | y
    · exfalso
      obtain ⟨l, e⟩ := sv_J_head (d := d) hc ur z h5
      rw [e] at w
      have := (List.cons.inj w).1
      omega
    · rw [sv_W_k z y h5] at w
      rw [x2 y]
      exact (List.cons.inj w).1
  · obtain ⟨v, rfl⟩ : ∃ v, r = 18 + v := ⟨r - 18, by omega⟩
    rw [sv_W_v] at w
    have e1 : sv_tw (c - 2) = [c] := by
      rw [sv_tw3 (by omega)]
      have : 2 + (c - 2) = c := by omega
      rw [this]
    have e2 := sv_tw_inj (d v) (h15 v (by omega)) (c - 2) (by omega) (w.trans e1.symm)
    rw [hd v (by omega) rr.1]
    omega
theorem sv_compl {T S : Nat → Nat} {J : Nat → Option Nat} {H d : Nat → Nat} (hc : sv_CM T S) (hu : sv_UF T S J) (hh : sv_HF T S J H) (hl : sv_Lk T S J d) (h15 : ∀ v, v < 3 → d v < 15)
    (hd : ∀ v, v < 3 → J (18 + v) = none → H (18 + v) = d v + 2) : ∀ v, v < 3 → H (sv_fd T J (18 + v)) = d v + 2 := by
  intro v hv
  have hn : sv_us S (18 + v) := Or.inr (Or.inr ⟨by omega, by omega⟩)
  have w := sv_Lk_fd hc hu.1 hl hn
  have ur := sv_us_fd hc hu.1 hn
  have rr := sv_fd_r hu.1 hn
  have cA := fun {n c : Nat} => sv_cA (n := n) (c := c) hc hu hh hl h15 hd
  rw [sv_W_v] at w
  have dv := h15 v hv
  generalize sv_fd T J (18 + v) = r at *
  have h21 := sv_us_lt hc ur
  rcases Nat.lt_or_ge r 18 with z | z
  · have h5 : T r < 5 := by have := rr.2; omega
    obtain ⟨x2, x0, x1⟩ := hh r ur z rr
    rcases Nat.lt_or_ge (T r) 2 with y | y
    · have k1 := (sv_kid1 hc ur z y).1
      rcases Nat.eq_zero_or_pos (T r) with q | q
      · rw [sv_W_f hc ur z q] at w
        rcases Nat.lt_or_ge (d v) 3 with s | s
        · rw [sv_tw3 s] at w
          have := (List.cons.inj w).1
          omega
        · rcases Nat.lt_or_ge (d v) 6 with s' | s'
          · rw [sv_tw6 s s'] at w
            have e := cA k1 (c := d v - 1) (by omega) (by omega) (List.cons.inj w).2
            have := (x0 q).1 (by rw [e]; exact ⟨by omega, by omega⟩)
            rw [this, e]
            omega
          · rw [sv_tw9 s'] at w
            have := (List.cons.inj w).1
            omega
      · have q1 : T r = 1 := by omega
        have k2 := (sv_kid2 hc ur z q1).1
        rw [sv_W_g hc ur z q1] at w
        rcases Nat.lt_or_ge (d v) 3 with s | s
        · rw [sv_tw3 s] at w
          have := (List.cons.inj w).1
          omega
        · rcases Nat.lt_or_ge (d v) 6 with s' | s'
          · rw [sv_tw6 s s'] at w
            have := (List.cons.inj w).1
            omega
          · rw [sv_tw9 s'] at w
            have w' : sv_W T d (r + 1) ++ sv_W T d (sv_R T r) = [2 + (d v - 6) / 3] ++ [2 + (d v - 6) % 3] := (List.cons.inj w).2
            obtain ⟨wa, wb⟩ := sv_Pf_u (sv_WP hc k1) (sv_Pf_l (by omega)) w'
            have ea := cA k1 (by omega) (by omega) wa
            have eb := cA k2 (by omega) (by omega) wb
            have := (x1 q1).1 ⟨by rw [ea]; exact ⟨by omega, by omega⟩, by rw [eb]; exact ⟨by omega, by omega⟩⟩
            rw [this, ea, eb]
            omega
    · rw [sv_W_k z y h5] at w
      rw [x2 y]
      have e1 : sv_tw (T r - 2) = [T r] := by
        rw [sv_tw3 (by omega)]
        have : 2 + (T r - 2) = T r := by omega
        rw [this]
      have e2 := sv_tw_inj (d v) dv (T r - 2) (by omega) (w.symm.trans e1.symm)
      omega
  · obtain ⟨v', rfl⟩ : ∃ v, r = 18 + v := ⟨r - 18, by omega⟩
    rw [sv_W_v] at w
    have e2 := sv_tw_inj (d v') (h15 v' (by omega)) (d v) dv w
    rw [hd v' (by omega) rr.1, e2]
/-! working out -/
def sv_cp (t a b : Nat) : Nat := if (2 ≤ a ∧ a ≤ 4) ∧ (2 ≤ b ∧ b ≤ 4) then (if t = 0 then a + 3 else 3 * a + b) else 1
noncomputable def sv_bl (T : Nat → Nat) (J : Nat → Option Nat) (H : Nat → Nat) (p : Nat) : Nat → Nat :=
  if sv_fd T J p = p ∧ H p = 0 then
    (if 2 ≤ T p then sv_up H p (T p)
     else if H (sv_fd T J (p + 1)) ≠ 0 ∧ sv_hb T J H p ≠ 0 then sv_up H p (sv_cp (T p) (H (sv_fd T J (p + 1))) (sv_hb T J H p)) else H)
  else H
noncomputable def sv_dn (T : Nat → Nat) (J : Nat → Option Nat) (b : Nat) : Nat → (Nat → Nat) → Nat → Nat
  | 0, H => H
  | k + 1, H => sv_dn T J b k (sv_bl T J H (9 * b + k))
noncomputable def sv_rn (T S : Nat → Nat) (J : Nat → Option Nat) (H : Nat → Nat) : Nat → Nat := sv_dn T J 1 (S 1) (sv_dn T J 0 (S 0) H)
noncomputable def sv_wo (T S : Nat → Nat) (J : Nat → Option Nat) (H : Nat → Nat) : Nat → Nat := sv_rn T S J (sv_rn T S J (sv_rn T S J (sv_rn T S J H)))
theorem sv_cp_ne (t a b : Nat) : sv_cp t a b ≠ 0 := by
  unfold sv_cp
  split
  · split <;> omega
  · omega
theorem sv_cp_le (t a b : Nat) : sv_cp t a b ≤ 16 := by
  unfold sv_cp
  split
  · split <;> omega
  · omega
theorem sv_cp_k (t a b : Nat) : ¬ sv_k4 (sv_cp t a b) := by
  unfold sv_cp sv_k4
  split
  · split <;> omega
  · omega
theorem sv_bl_c (T : Nat → Nat) (J : Nat → Option Nat) (H : Nat → Nat) (p : Nat) : sv_bl T J H p = H ∨
    (H p = 0 ∧ ((2 ≤ T p ∧ sv_bl T J H p = sv_up H p (T p)) ∨ (T p < 2 ∧ H (sv_fd T J (p + 1)) ≠ 0 ∧ sv_hb T J H p ≠ 0 ∧ sv_bl T J H p = sv_up H p (sv_cp (T p) (H (sv_fd T J (p + 1))) (sv_hb T J H p))))) := by
  unfold sv_bl
  by_cases h : sv_fd T J p = p ∧ H p = 0
  · rw [if_pos h]
    by_cases h2 : 2 ≤ T p
    · rw [if_pos h2]
      exact Or.inr ⟨h.2, Or.inl ⟨h2, rfl⟩⟩
    · rw [if_neg h2]
      by_cases h3 : H (sv_fd T J (p + 1)) ≠ 0 ∧ sv_hb T J H p ≠ 0
      · rw [if_pos h3]
        exact Or.inr ⟨h.2, Or.inr ⟨by omega, h3.1, h3.2, rfl⟩⟩
      · rw [if_neg h3]
        exact Or.inl rfl
  · rw [if_neg h]
    exact Or.inl rfl
theorem sv_bl_le {T S : Nat → Nat} {J : Nat → Option Nat} {H : Nat → Nat} (hc : sv_CM T S) (h : ∀ n, H n ≤ 16) (p : Nat) : ∀ n, sv_bl T J H p n ≤ 16 := by
  intro n
  rcases sv_bl_c T J H p with e | ⟨_, ⟨_, e⟩ | ⟨_, _, _, e⟩⟩
  · rw [e]; exact h n
  · rw [e]
    exact sv_up_all (P := fun x => x ≤ 16) h (by have := hc.2.2.2.2 p; omega) n
  · rw [e]
    exact sv_up_all (P := fun x => x ≤ 16) h (sv_cp_le _ _ _) n
def sv_P1 (T S : Nat → Nat) (J : Nat → Option Nat) (H : Nat → Nat) : Prop := ∀ p, sv_us S p → p < 18 → sv_rt T J p → H p ≠ 0 →
  (2 ≤ T p → H p = T p) ∧ (T p < 2 → H (sv_fd T J (p + 1)) ≠ 0 ∧ sv_hb T J H p ≠ 0 ∧ H p = sv_cp (T p) (H (sv_fd T J (p + 1))) (sv_hb T J H p))
def sv_bb (T : Nat → Nat) (J : Nat → Option Nat) (H : Nat → Nat) (p : Nat) : Prop := 2 ≤ T p ∨ (H (sv_fd T J (p + 1)) ≠ 0 ∧ sv_hb T J H p ≠ 0)
def sv_ef (H H' : Nat → Nat) : Prop := ∀ n, H n ≠ 0 → H' n = H n
theorem sv_ef_hb {T : Nat → Nat} {J : Nat → Option Nat} {H H' : Nat → Nat} (h : sv_ef H H') {p : Nat} (hb : sv_hb T J H p ≠ 0) : sv_hb T J H' p = sv_hb T J H p := by
  by_cases e : T p = 1
  · rw [sv_hb_1 e] at hb ⊢
    rw [sv_hb_1 e]
    exact h _ hb
  · rw [sv_hb_0 e, sv_hb_0 e]
theorem sv_ef_bb {T : Nat → Nat} {J : Nat → Option Nat} {H H' : Nat → Nat} (h : sv_ef H H') {p : Nat} (hb : sv_bb T J H p) : sv_bb T J H' p := by
  rcases hb with z | ⟨z, y⟩
  · exact Or.inl z
  · exact Or.inr ⟨by rw [h _ z]; exact z, by rw [sv_ef_hb h y]; exact y⟩
def sv_Rs (T S : Nat → Nat) (J : Nat → Option Nat) (Q : Nat → Prop) (H H' : Nat → Nat) : Prop :=
  sv_ef H H' ∧ (∀ n, 18 ≤ n → H' n = H n) ∧ (sv_P1 T S J H → sv_P1 T S J H') ∧ (∀ p, Q p → sv_rt T J p → sv_bb T J H p → H' p ≠ 0)
theorem sv_Rs_bl {T S : Nat → Nat} {J : Nat → Option Nat} {H : Nat → Nat} {p : Nat} (h18 : p < 18) : sv_Rs T S J (fun q => q = p) H (sv_bl T J H p) := by
  have ef : sv_ef H (sv_bl T J H p) := by
    intro n hn
    rcases sv_bl_c T J H p with e | ⟨h0, ⟨_, e⟩ | ⟨_, _, _, e⟩⟩
    · rw [e]
    · rw [e]
      have : n ≠ p := fun q => hn (q ▸ h0)
      exact sv_upn this
    · rw [e]
      have : n ≠ p := fun q => hn (q ▸ h0)
      exact sv_upn this
  refine ⟨ef, ?_, ?_, ?_⟩
  · intro n hn
    have : n ≠ p := by omega
    rcases sv_bl_c T J H p with e | ⟨h0, ⟨_, e⟩ | ⟨_, _, _, e⟩⟩
    · rw [e]
    · rw [e]; exact sv_upn this
    · rw [e]; exact sv_upn this
  · intro hp q uq q18 rq hq
    by_cases e0 : H q = 0
    · have eq : q = p := by
        refine Classical.byContradiction fun ne => ?_
        rcases sv_bl_c T J H p with e | ⟨h0, ⟨_, e⟩ | ⟨_, _, _, e⟩⟩
        · rw [e] at hq; exact hq e0
        · rw [e, sv_upn ne] at hq; exact hq e0
        · rw [e, sv_upn ne] at hq; exact hq e0
      subst eq
      rcases sv_bl_c T J H q with e | ⟨h0, ⟨h2, e⟩ | ⟨h2, a, b, e⟩⟩
      · rw [e] at hq; exact absurd e0 hq
      · refine ⟨fun _ => ?_, fun z => by omega⟩
        rw [e]
        exact sv_ups
      · refine ⟨fun z => by omega, fun _ => ?_⟩
        refine ⟨by rw [ef _ a]; exact a, by rw [sv_ef_hb ef b]; exact b, ?_⟩
        rw [ef _ a, sv_ef_hb ef b, e]
        exact sv_ups
    · obtain ⟨a, b⟩ := hp q uq q18 rq e0
      rw [ef q e0]
      refine ⟨a, fun z => ?_⟩
      obtain ⟨c1, c2, c3⟩ := b z
      refine ⟨by rw [ef _ c1]; exact c1, by rw [sv_ef_hb ef c2]; exact c2, ?_⟩
      rw [ef _ c1, sv_ef_hb ef c2]
      exact c3
  · intro q eq rq hb
    subst eq
    by_cases e0 : H q = 0
    · unfold sv_bl
      rw [if_pos ⟨sv_fd_id rq, e0⟩]
      by_cases h2 : 2 ≤ T q
      · rw [if_pos h2, sv_ups]
        omega
      · rw [if_neg h2]
        rcases hb with z | z
        · exact absurd z h2
        · rw [if_pos z, sv_ups]
          exact sv_cp_ne _ _ _
    · rw [ef q e0]
      exact e0
theorem sv_Rs_0 {T S : Nat → Nat} {J : Nat → Option Nat} {H : Nat → Nat} : sv_Rs T S J (fun _ => False) H H := ⟨fun _ _ => rfl, fun _ _ => rfl, fun h => h, fun _ q => q.elim⟩
theorem sv_Rs_t {T S : Nat → Nat} {J : Nat → Option Nat} {P Q R : Nat → Prop} {H H' H'' : Nat → Nat} (a : sv_Rs T S J P H H') (b : sv_Rs T S J Q H' H'') (c : ∀ p, R p → P p ∨ Q p) : sv_Rs T S J R H H'' := by
  refine ⟨fun n hn => ?_, fun n hn => (b.2.1 n hn).trans (a.2.1 n hn), fun h => b.2.2.1 (a.2.2.1 h), fun p hp hr hb => ?_⟩
  · rw [b.1 n (by rw [a.1 n hn]; exact hn), a.1 n hn]
  · rcases c p hp with z | z
    · have := a.2.2.2 p z hr hb
      rw [b.1 p this]
      exact this
    · exact b.2.2.2 p z hr (sv_ef_bb a.1 hb)
theorem sv_Rs_dn {T S : Nat → Nat} {J : Nat → Option Nat} {b : Nat} : ∀ k H, 9 * b + k ≤ 18 → sv_Rs T S J (fun p => 9 * b ≤ p ∧ p < 9 * b + k) H (sv_dn T J b k H)
  | 0, H, _ => sv_Rs_t sv_Rs_0 sv_Rs_0 (fun p hp => by omega)
  | k + 1, H, hk => sv_Rs_t (sv_Rs_bl (p := 9 * b + k) (by omega)) (sv_Rs_dn k _ (by omega)) (fun p hp => by omega)
theorem sv_Rs_rn {T S : Nat → Nat} {J : Nat → Option Nat} (hc : sv_CM T S) (H : Nat → Nat) : sv_Rs T S J (fun p => sv_us S p ∧ p < 18) H (sv_rn T S J H) := by
  have h0 := hc.1
  have h1 := hc.2.1
  refine sv_Rs_t (sv_Rs_dn (b := 0) (S 0) H (by omega)) (sv_Rs_dn (b := 1) (S 1) _ (by omega)) ?_
  rintro p ⟨hp, h18⟩
  rcases hp with z | z | z
  · exact Or.inl ⟨by omega, by omega⟩
  · exact Or.inr ⟨by omega, by omega⟩
  · omega
theorem sv_wo_HF {T S : Nat → Nat} {J : Nat → Option Nat} (hc : sv_CM T S) (hu : sv_UF T S J) {H : Nat → Nat} (h0 : ∀ n, n < 18 → H n = 0) :
    sv_HF T S J (sv_wo T S J H) ∧ ∀ n, 18 ≤ n → sv_wo T S J H n = H n := by
  have r1 := sv_Rs_rn (J := J) hc H
  have r2 := sv_Rs_rn (J := J) hc (sv_rn T S J H)
  have r3 := sv_Rs_rn (J := J) hc (sv_rn T S J (sv_rn T S J H))
  have r4 := sv_Rs_rn (J := J) hc (sv_rn T S J (sv_rn T S J (sv_rn T S J H)))
  have p0 : sv_P1 T S J H := fun p _ h18 _ hne => absurd (h0 p h18) hne
  have r34 := sv_Rs_t (R := fun _ => False) r3 r4 (fun _ z => z.elim)
  have r24 := sv_Rs_t (R := fun p => sv_us S p ∧ p < 18) r2 r34 (fun _ z => Or.inl z)
  have r14 := sv_Rs_t (R := fun p => sv_us S p ∧ p < 18) r1 r24 (fun _ z => Or.inl z)
  have e4 : sv_rn T S J (sv_rn T S J (sv_rn T S J (sv_rn T S J H))) = sv_wo T S J H := rfl
  rw [e4] at r14 r24
  generalize sv_wo T S J H = G at *
  have pG := r14.2.2.1 p0
  refine ⟨?_, r14.2.1⟩
  have early : ∀ n, sv_us S n → sv_k4 (G (sv_fd T J n)) → sv_rn T S J H (sv_fd T J n) ≠ 0 := by
    intro n hn hk
    have ur := sv_us_fd hc hu.1 hn
    have rr := sv_fd_r hu.1 hn
    generalize sv_fd T J n = q at *
    have g1 := hk.1
    rcases Nat.lt_or_ge q 18 with z | z
    · rcases Nat.lt_or_ge (T q) 2 with y | y
      · exfalso
        obtain ⟨_, b⟩ := pG q ur z rr (by omega)
        rw [(b y).2.2] at hk
        exact sv_cp_k _ _ _ hk
      · exact r1.2.2.2 q ⟨ur, z⟩ rr (Or.inl y)
    · rw [r1.2.1 q z, ← r14.2.1 q z]
      omega
  intro p up h18 rp
  refine ⟨fun h2 => ?_, fun ht => ⟨fun hk => ?_, fun hk => ?_⟩, fun ht => ⟨fun hk => ?_, fun hk => ?_⟩⟩
  · exact (pG p up h18 rp (r14.2.2.2 p ⟨up, h18⟩ rp (Or.inl h2))).1 h2
  · have k1 := (sv_kid1 hc up h18 (by omega)).1
    have b1 : sv_bb T J (sv_rn T S J H) p := Or.inr ⟨early _ k1 hk, by rw [sv_hb_0 (by omega)]; omega⟩
    have ne := r24.2.2.2 p ⟨up, h18⟩ rp b1
    have := ((pG p up h18 rp ne).2 (by omega)).2.2
    rw [this, sv_hb_0 (by omega), ht]
    unfold sv_cp
    rw [if_pos ⟨hk, by omega⟩, if_pos rfl]
  · rcases Nat.lt_or_ge (G p) 2 with z | z
    · exact z
    · have := ((pG p up h18 rp (by omega)).2 (by omega)).2.2
      rw [this]
      unfold sv_cp
      rw [if_neg (fun q => hk q.1)]
      omega
  · have k1 := (sv_kid1 hc up h18 (by omega)).1
    have k2 := (sv_kid2 hc up h18 ht).1
    have b1 : sv_bb T J (sv_rn T S J H) p := Or.inr ⟨early _ k1 hk.1, by rw [sv_hb_1 ht]; exact early _ k2 hk.2⟩
    have ne := r24.2.2.2 p ⟨up, h18⟩ rp b1
    have := ((pG p up h18 rp ne).2 (by omega)).2.2
    rw [this, sv_hb_1 ht, ht]
    unfold sv_cp
    rw [if_pos ⟨hk.1, hk.2⟩, if_neg (by omega)]
  · rcases Nat.lt_or_ge (G p) 2 with z | z
    · exact z
    · have := ((pG p up h18 rp (by omega)).2 (by omega)).2.2
      rw [sv_hb_1 ht] at this
      rw [this]
      unfold sv_cp
      rw [if_neg (fun q => hk ⟨q.1, q.2⟩)]
      omega
theorem sv_dn_le {T S : Nat → Nat} {J : Nat → Option Nat} {b : Nat} (hc : sv_CM T S) : ∀ k H, (∀ n, H n ≤ 16) → ∀ n, sv_dn T J b k H n ≤ 16
  | 0, _, h => h
  | k + 1, _, h => sv_dn_le hc k _ (sv_bl_le hc h _)
theorem sv_rn_le {T S : Nat → Nat} {J : Nat → Option Nat} (hc : sv_CM T S) {H : Nat → Nat} (h : ∀ n, H n ≤ 16) : ∀ n, sv_rn T S J H n ≤ 16 := sv_dn_le hc _ _ (sv_dn_le hc _ _ h)
theorem sv_wo_le {T S : Nat → Nat} {J : Nat → Option Nat} (hc : sv_CM T S) {H : Nat → Nat} (h : ∀ n, H n ≤ 16) : ∀ n, sv_wo T S J H n ≤ 16 := sv_rn_le hc (sv_rn_le hc (sv_rn_le hc (sv_rn_le hc h)))
end
section
/-! ways, solutions, choices, counts -/
def sv_dg (v w : Nat) : Nat := if v = 0 then w / 225 else if v = 1 then w / 15 % 15 else w % 15
theorem sv_dg0 (w : Nat) : sv_dg 0 w = w / 225 := rfl
theorem sv_dg1 (w : Nat) : sv_dg 1 w = w / 15 % 15 := rfl
theorem sv_dg2 (w : Nat) : sv_dg 2 w = w % 15 := rfl
theorem sv_dg_lt {w : Nat} (h : w < 3375) (v : Nat) : sv_dg v w < 15 := by
  unfold sv_dg
  split
  · omega
  · split <;> omega
theorem sv_v3 {P : Nat → Prop} (h0 : P 0) (h1 : P 1) (h2 : P 2) : ∀ v, v < 3 → P v := by
  intro v hv
  rcases v with _ | _ | _ | v
  · exact h0
  · exact h1
  · exact h2
  · omega
def sv_sol (m V T S : Nat → Nat) (w : Nat) : Bool := ((m (sv_dg 0 w)).testBit (V 0) && ((m (sv_dg 1 w)).testBit (V 1) && (m (sv_dg 2 w)).testBit (V 2))) && decide (sv_cc T (fun v => sv_dg v w) 0 (S 0) = sv_cc T (fun v => sv_dg v w) 9 (S 1))
theorem sv_sol_i {m V T S : Nat → Nat} {w : Nat} : sv_sol m V T S w = true ↔ (∀ v, v < 3 → (m (sv_dg v w)).testBit (V v) = true) ∧ sv_cc T (fun v => sv_dg v w) 0 (S 0) = sv_cc T (fun v => sv_dg v w) 9 (S 1) := by
  unfold sv_sol
  rw [Bool.and_eq_true, Bool.and_eq_true, Bool.and_eq_true, decide_eq_true_iff]
  constructor
  · rintro ⟨⟨a, b, c⟩, e⟩
    exact ⟨sv_v3 a b c, e⟩
  · rintro ⟨h, e⟩
    exact ⟨⟨h 0 (by omega), h 1 (by omega), h 2 (by omega)⟩, e⟩
def sv_cm (T S : Nat → Nat) (b : Nat) : Bool := decide (sv_pn T (9 * b) (S b) = 0)
def sv_Q (m V T S : Nat → Nat) (w : Nat) : Bool := (sv_cm T S 0 && sv_cm T S 1) && sv_sol m V T S w
def sv_q0 (fr : Nat → Bool) (w : Nat) : Nat := if fr 0 = true then sv_dg 0 w else 0
def sv_q1 (fr : Nat → Bool) (w : Nat) : Nat := if fr 1 = true then sv_q0 fr w * 15 + sv_dg 1 w else sv_q0 fr w
def sv_psi (fr : Nat → Bool) (w : Nat) : Nat := if fr 2 = true then sv_q1 fr w * 15 + sv_dg 2 w else sv_q1 fr w
def sv_f1 (b : Bool) : Nat := if b = true then 15 else 1
def sv_last (fr : Nat → Bool) : Nat := sv_f1 (fr 0) * sv_f1 (fr 1) * sv_f1 (fr 2)
def sv_r1 (fr : Nat → Bool) (c : Nat) : Nat := if fr 2 = true then c / 15 else c
def sv_r0 (fr : Nat → Bool) (c : Nat) : Nat := if fr 1 = true then sv_r1 fr c / 15 else sv_r1 fr c
def sv_cd (fr : Nat → Bool) (c v : Nat) : Nat := (if v = 0 then sv_r0 fr c else if v = 1 then sv_r1 fr c else c) % 15
theorem sv_cd_lt (fr : Nat → Bool) (c v : Nat) : sv_cd fr c v < 15 := Nat.mod_lt _ (by omega)
theorem sv_last_le (fr : Nat → Bool) : sv_last fr ≤ 3375 := by
  unfold sv_last sv_f1
  cases fr 0 <;> cases fr 1 <;> cases fr 2 <;> decide
theorem sv_psi_lt {fr : Nat → Bool} {w : Nat} (h : w < 3375) : sv_psi fr w < sv_last fr := by
  have a := sv_dg_lt h 0
  have b := sv_dg_lt h 1
  have c := sv_dg_lt h 2
  unfold sv_last sv_f1 sv_psi sv_q1 sv_q0
  cases fr 0 <;> cases fr 1 <;> cases fr 2 <;> simp only [if_true, if_false, Bool.false_eq_true, reduceIte] <;> omega
theorem sv_psi_i {fr : Nat → Bool} {w c : Nat} (h : w < 3375) (hc : c < sv_last fr) : sv_psi fr w = c ↔ ∀ v, v < 3 → fr v = true → sv_dg v w = sv_cd fr c v := by
  have e : (∀ v, v < 3 → fr v = true → sv_dg v w = sv_cd fr c v) ↔ ((fr 0 = true → sv_dg 0 w = sv_cd fr c 0) ∧ (fr 1 = true → sv_dg 1 w = sv_cd fr c 1) ∧ (fr 2 = true → sv_dg 2 w = sv_cd fr c 2)) :=
    ⟨fun h => ⟨h 0 (by omega), h 1 (by omega), h 2 (by omega)⟩, fun h => sv_v3 h.1 h.2.1 h.2.2⟩
  rw [e]
  have a := sv_dg_lt h 0
  have b := sv_dg_lt h 1
  have d := sv_dg_lt h 2
  have e0 : sv_cd fr c 0 = sv_r0 fr c % 15 := rfl
  have e1 : sv_cd fr c 1 = sv_r1 fr c % 15 := rfl
  have e2 : sv_cd fr c 2 = c % 15 := rfl
  rw [e0, e1, e2]
  unfold sv_last sv_f1 at hc
  unfold sv_psi sv_q1 sv_q0 sv_r0 sv_r1
  generalize sv_dg 0 w = A at *
  generalize sv_dg 1 w = B at *
  generalize sv_dg 2 w = C at *
  revert hc
  cases fr 0 <;> cases fr 1 <;> cases fr 2 <;> simp only [if_true, if_false, Bool.false_eq_true, reduceIte, false_implies, true_implies, and_true, true_and, iff_true] <;> intro hc <;> omega
def sv_H0 (fr : Nat → Bool) (c n : Nat) : Nat := if (18 ≤ n ∧ n < 21) ∧ fr (n - 18) = true then sv_cd fr c (n - 18) + 2 else 0
theorem sv_H0_le (fr : Nat → Bool) (c : Nat) : ∀ n, sv_H0 fr c n ≤ 16 := by
  intro n
  unfold sv_H0
  split
  · have := sv_cd_lt fr c (n - 18)
    omega
  · omega
theorem sv_H0_v {fr : Nat → Bool} {c v : Nat} (hv : v < 3) (h : fr v = true) : sv_H0 fr c (18 + v) = sv_cd fr c v + 2 := by
  unfold sv_H0
  rw [Nat.add_sub_cancel_left, if_pos ⟨⟨by omega, by omega⟩, h⟩]
def sv_frJ (J : Nat → Option Nat) (fr : Nat → Bool) : Prop := ∀ v, v < 3 → (fr v = true ↔ J (18 + v) = none)
noncomputable def sv_Hf (T S : Nat → Nat) (J : Nat → Option Nat) (fr : Nat → Bool) (c n : Nat) : Nat := sv_wo T S J (sv_H0 fr c) (sv_fd T J n)
theorem sv_Hf_le {T S : Nat → Nat} {J : Nat → Option Nat} {fr : Nat → Bool} {c n : Nat} (hc : sv_CM T S) : sv_Hf T S J fr c n ≤ 16 := sv_wo_le hc (sv_H0_le fr c) _
theorem sv_Hf_fr {T S : Nat → Nat} {J : Nat → Option Nat} {fr : Nat → Bool} {c : Nat} (hc : sv_CM T S) (hu : sv_UF T S J) (hf : sv_frJ J fr) {v : Nat} (hv : v < 3) (h : fr v = true) : sv_Hf T S J fr c (18 + v) = sv_cd fr c v + 2 := by
  have rr : sv_rt T J (18 + v) := ⟨(hf v hv).mp h, fun z => by omega⟩
  have h0 : ∀ n, n < 18 → sv_H0 fr c n = 0 := fun n hn => if_neg (fun z => by omega)
  unfold sv_Hf
  rw [sv_fd_id rr, (sv_wo_HF hc hu h0).2 _ (by omega), sv_H0_v hv h]
/-- an accepted choice gives a solution -/
theorem sv_acc_1 {T S m V : Nat → Nat} {J : Nat → Option Nat} {fr : Nat → Bool} {c : Nat} (hc : sv_CM T S) (hu : sv_UF T S J) (hf : sv_frJ J fr) (hl : c < sv_last fr)
    (ha : ∀ v, v < 3 → 2 ≤ sv_Hf T S J fr c (18 + v) ∧ (m (sv_Hf T S J fr c (18 + v) - 2)).testBit (V v) = true) :
    ∃ w, w < 3375 ∧ (∀ v, v < 3 → sv_Hf T S J fr c (18 + v) = sv_dg v w + 2) ∧ sv_sol m V T S w = true ∧ sv_psi fr w = c := by
  have h0 : ∀ n, n < 18 → sv_H0 fr c n = 0 := fun n hn => if_neg (fun z => by omega)
  have l0 := sv_Hf_le (J := J) (fr := fr) (c := c) (n := 18 + 0) hc
  have l1 := sv_Hf_le (J := J) (fr := fr) (c := c) (n := 18 + 1) hc
  have l2 := sv_Hf_le (J := J) (fr := fr) (c := c) (n := 18 + 2) hc
  have a0 := (ha 0 (by omega)).1
  have a1 := (ha 1 (by omega)).1
  have a2 := (ha 2 (by omega)).1
  have hw : 225 * (sv_Hf T S J fr c (18 + 0) - 2) + 15 * (sv_Hf T S J fr c (18 + 1) - 2) + (sv_Hf T S J fr c (18 + 2) - 2) < 3375 := by omega
  have hd : ∀ v, v < 3 → sv_Hf T S J fr c (18 + v) = sv_dg v (225 * (sv_Hf T S J fr c (18 + 0) - 2) + 15 * (sv_Hf T S J fr c (18 + 1) - 2) + (sv_Hf T S J fr c (18 + 2) - 2)) + 2 := by
    apply sv_v3
    · rw [sv_dg0]; omega
    · rw [sv_dg1]; omega
    · rw [sv_dg2]; omega
  generalize 225 * (sv_Hf T S J fr c (18 + 0) - 2) + 15 * (sv_Hf T S J fr c (18 + 1) - 2) + (sv_Hf T S J fr c (18 + 2) - 2) = w at *
  refine ⟨w, hw, hd, ?_, ?_⟩
  · rw [sv_sol_i]
    refine ⟨fun v hv => ?_, ?_⟩
    · have := (ha v hv).2
      rw [hd v hv, Nat.add_sub_cancel] at this
      exact this
    · have := sv_sound (d := fun v => sv_dg v w) hc hu (sv_wo_HF hc hu h0).1 hd
      rw [sv_W_0 hc, sv_W_9 hc] at this
      exact this
  · rw [sv_psi_i hw hl]
    intro v hv h
    have := hd v hv
    rw [sv_Hf_fr hc hu hf hv h] at this
    omega
/-- a solution's choice is accepted, with its things -/
theorem sv_acc_2 {T S m V : Nat → Nat} {J : Nat → Option Nat} {fr : Nat → Bool} {c w : Nat} (hc : sv_CM T S) (hu : sv_UF T S J) (hf : sv_frJ J fr) (hl : c < sv_last fr)
    (hw : w < 3375) (hs : sv_sol m V T S w = true) (hp : sv_psi fr w = c) : ∀ v, v < 3 → sv_Hf T S J fr c (18 + v) = sv_dg v w + 2 := by
  have h0 : ∀ n, n < 18 → sv_H0 fr c n = 0 := fun n hn => if_neg (fun z => by omega)
  have hs2 := (sv_sol_i.mp hs).2
  rw [← sv_W_0 hc, ← sv_W_9 hc] at hs2
  have hlk := (hu.2.2 _).mp hs2
  have pi := (sv_psi_i hw hl).mp hp
  refine sv_compl (d := fun v => sv_dg v w) hc hu (sv_wo_HF hc hu h0).1 hlk (fun v _ => sv_dg_lt hw v) ?_
  intro v hv hj
  have fv := (hf v hv).mpr hj
  rw [(sv_wo_HF hc hu h0).2 _ (by omega), sv_H0_v hv fv, pi v hv fv]
/-! what is known of the set q of ways -/
def sv_KN (q : Nat → Bool) (ct : Int32) (cn al fo : Nat → Int32) : Prop :=
  ct = nI (sv_ct q 3375) ∧
  (∀ v t, v < 3 → t < 15 → cn (v * 15 + t) = nI (sv_ct (fun w => q w && decide (sv_dg v w = t)) 3375)) ∧
  (∀ v u, v < 3 → u < 3 → al (v * 3 + u) = nI (sv_ct (fun w => q w && decide (sv_dg v w = sv_dg u w)) 3375)) ∧
  (∀ w, w < 3375 → q w = true → (∀ x, x < w → q x = false) → ∀ v, v < 3 → fo v = nI (sv_dg v w))
theorem sv_KN_c {q q' : Nat → Bool} {ct : Int32} {cn al fo : Nat → Int32} (h : ∀ w, w < 3375 → q w = q' w) (K : sv_KN q ct cn al fo) : sv_KN q' ct cn al fo := by
  obtain ⟨a, b, c, d⟩ := K
  refine ⟨?_, ?_, ?_, ?_⟩
  · rw [a, sv_ct_eq h]
  · intro v t hv ht
    rw [b v t hv ht]
    exact congrArg nI (sv_ct_eq fun i hi => by rw [h i hi])
  · intro v t hv ht
    rw [c v t hv ht]
    exact congrArg nI (sv_ct_eq fun i hi => by rw [h i hi])
  · intro w hw hq hl v hv
    exact d w hw (by rw [h w hw]; exact hq) (fun x hx => by rw [h x (by omega)]; exact hl x hx) v hv
theorem sv_KN_0 {cn al fo : Nat → Int32} (hc : ∀ j, j < 45 → cn j = 0) (ha : ∀ j, j < 9 → al j = 0) : sv_KN (fun _ => false) 0 cn al fo := by
  refine ⟨?_, ?_, ?_, ?_⟩
  · rw [sv_ct_0 (fun _ _ => rfl)]
    rfl
  · intro v t hv ht
    have e : sv_ct (fun w => (fun _ => false) w && decide (sv_dg v w = t)) 3375 = 0 := sv_ct_0 (fun _ _ => rfl)
    rw [hc (v * 15 + t) (by omega), e]
    rfl
  · intro v t hv ht
    have e : sv_ct (fun w => (fun _ => false) w && decide (sv_dg v w = sv_dg t w)) 3375 = 0 := sv_ct_0 (fun _ _ => rfl)
    rw [ha (v * 3 + t) (by omega), e]
    rfl
  · intro w _ hq
    exact absurd hq (by simp)
theorem sv_KN_s {q q' : Nat → Bool} {ct : Int32} {cn al fo cn' al' fo' : Nat → Int32} {w0 : Nat} {bt : Bool} (h0 : w0 < 3375) (hq : q w0 = false) (hq' : q' w0 = true) (he : ∀ w, w < 3375 → w ≠ w0 → q' w = q w)
    (K : sv_KN q ct cn al fo)
    (hcn : ∀ v t, v < 3 → t < 15 → cn' (v * 15 + t) = if sv_dg v w0 = t then cn (v * 15 + t) + 1 else cn (v * 15 + t))
    (hal : ∀ v u, v < 3 → u < 3 → al' (v * 3 + u) = if sv_dg v w0 = sv_dg u w0 then al (v * 3 + u) + 1 else al (v * 3 + u))
    (hfo : ∀ v, v < 3 → fo' v = if bt = true then nI (sv_dg v w0) else fo v)
    (hb : bt = true ↔ ∀ w, w < w0 → q w = false) : sv_KN q' (ct + 1) cn' al' fo' := by
  obtain ⟨a, b, c, d⟩ := K
  have gen : ∀ P : Nat → Bool, P w0 = true → sv_ct (fun w => q' w && P w) 3375 = sv_ct (fun w => q w && P w) 3375 + 1 := by
    intro P hP
    refine sv_ct_1 (a := w0) ?_ ?_ h0 ?_
    · show (q' w0 && P w0) = true
      rw [hq', hP]; rfl
    · show (q w0 && P w0) = false
      rw [hq]; rfl
    · intro i hi hn
      show (q' i && P i) = (q i && P i)
      rw [he i hi hn]
  have gen0 : ∀ P : Nat → Bool, P w0 = false → sv_ct (fun w => q' w && P w) 3375 = sv_ct (fun w => q w && P w) 3375 := by
    intro P hP
    refine sv_ct_eq fun i hi => ?_
    show (q' i && P i) = (q i && P i)
    by_cases e : i = w0
    · rw [e, hP, Bool.and_false, Bool.and_false]
    · rw [he i hi e]
  refine ⟨?_, ?_, ?_, ?_⟩
  · rw [a, nI_1, sv_ct_1 (p := q') (q := q) (a := w0) hq' hq h0 he]
  · intro v t hv ht
    rw [hcn v t hv ht, b v t hv ht]
    by_cases e : sv_dg v w0 = t
    · rw [if_pos e, nI_1, gen (fun w => decide (sv_dg v w = t)) (decide_eq_true e)]
    · rw [if_neg e, gen0 (fun w => decide (sv_dg v w = t)) (decide_eq_false e)]
  · intro v u hv hu
    rw [hal v u hv hu, c v u hv hu]
    by_cases e : sv_dg v w0 = sv_dg u w0
    · rw [if_pos e, nI_1, gen (fun w => decide (sv_dg v w = sv_dg u w)) (decide_eq_true e)]
    · rw [if_neg e, gen0 (fun w => decide (sv_dg v w = sv_dg u w)) (decide_eq_false e)]
  · intro w hw hqw hl v hv
    rw [hfo v hv]
    by_cases e : bt = true
    · rw [if_pos e]
      have hm := hb.mp e
      have : w = w0 := by
        rcases Nat.lt_trichotomy w w0 with z | z | z
        · have := hm w z
          rw [he w hw (by omega), this] at hqw
          exact absurd hqw (by simp)
        · exact z
        · have := hl w0 z
          rw [hq'] at this
          exact absurd this (by simp)
      rw [this]
    · rw [if_neg e]
      have nw : w ≠ w0 := by
        intro ew
        subst ew
        refine e (hb.mpr fun x hx => ?_)
        rw [← he x (by omega) (by omega)]
        exact hl x hx
      refine d w hw (by rw [← he w hw nw]; exact hqw) (fun x hx => ?_) v hv
      by_cases ex : x = w0
      · rw [ex]; exact hq
      · rw [← he x (by omega) ex]
        exact hl x hx
/-- better: by the first digit that differs -/
def sv_lx (d e : Nat → Nat) : Bool := decide (d 0 < e 0) || (decide (d 0 = e 0) && (decide (d 1 < e 1) || (decide (d 1 = e 1) && decide (d 2 < e 2))))
theorem sv_lx_i {x y : Nat} (hx : x < 3375) (hy : y < 3375) : sv_lx (fun v => sv_dg v x) (fun v => sv_dg v y) = true ↔ x < y := by
  unfold sv_lx
  rw [Bool.or_eq_true, Bool.and_eq_true, Bool.or_eq_true, Bool.and_eq_true, decide_eq_true_iff, decide_eq_true_iff, decide_eq_true_iff, decide_eq_true_iff, decide_eq_true_iff]
  show (sv_dg 0 x < sv_dg 0 y ∨ sv_dg 0 x = sv_dg 0 y ∧ (sv_dg 1 x < sv_dg 1 y ∨ sv_dg 1 x = sv_dg 1 y ∧ sv_dg 2 x < sv_dg 2 y)) ↔ x < y
  rw [sv_dg0, sv_dg0, sv_dg1, sv_dg1, sv_dg2, sv_dg2]
  omega
end
section
/-! small tests on ints -/
theorem sv_34 {a : Int32} : 3 < a ↔ 4 ≤ a := by
  rw [Int32.lt_iff_toInt_lt, Int32.le_iff_toInt_le]
  have e : (3 : Int32).toInt = 3 := by decide
  have e' : (4 : Int32).toInt = 4 := by decide
  omega
theorem sv_23 {a : Int32} : 2 < a ↔ 3 ≤ a := by
  rw [Int32.lt_iff_toInt_lt, Int32.le_iff_toInt_le]
  have e : (2 : Int32).toInt = 2 := by decide
  have e' : (3 : Int32).toInt = 3 := by decide
  omega
theorem sv_le2 {a : Int32} : a ≤ 2 ↔ ¬ 3 ≤ a := by
  rw [Int32.le_iff_toInt_le, Int32.le_iff_toInt_le]
  have e : (2 : Int32).toInt = 2 := by decide
  have e' : (3 : Int32).toInt = 3 := by decide
  omega
theorem sv_le14 {a : Int32} : a ≤ 14 ↔ ¬ 15 ≤ a := by
  rw [Int32.le_iff_toInt_le, Int32.le_iff_toInt_le]
  have e : (14 : Int32).toInt = 14 := by decide
  have e' : (15 : Int32).toInt = 15 := by decide
  omega
theorem sv_lt15 {a : Int32} : a < 15 ↔ ¬ 15 ≤ a := by
  rw [Int32.lt_iff_toInt_lt, Int32.le_iff_toInt_le]
  have e' : (15 : Int32).toInt = 15 := by decide
  omega
theorem sv_7 {a : Int32} : 7 < a ↔ 8 ≤ a := by
  rw [Int32.lt_iff_toInt_lt, Int32.le_iff_toInt_le]
  have e : (7 : Int32).toInt = 7 := by decide
  have e' : (8 : Int32).toInt = 8 := by decide
  omega
/-- not below n -/
def sv_out (a : Int32) (n : Nat) : Prop := a < 0 ∨ nI n ≤ a
theorem sv_io (a : Int32) {n : Nat} (hn : n < 2 ^ 31) : sv_out a n ∨ ∃ j, j < n ∧ a = nI j := by
  rcases pk_ix a hn with h | h | h
  · exact Or.inl (Or.inl h)
  · exact Or.inl (Or.inr h)
  · exact Or.inr h
section
variable {un so ff gg wn zs tq my tg wd : Nat → Int32}
variable {post : Int32 → Prop}
theorem sv_yst {j : Nat} (h : j < 4) (hp : post 1) : wpY_sort post (un, so, ff, gg, wn, zs, tq, my, tg, wd) (nI j) :=
  br_f (nI_pos (by omega)) (br_f (fun z => nI_ge (b := 4) h (by decide) (sv_34.mp z)) hp)
theorem sv_ysf {a : Int32} (h : sv_out a 4) (hp : post 0) : wpY_sort post (un, so, ff, gg, wn, zs, tq, my, tg, wd) a := by
  rcases h with h | h
  · exact br_t h hp
  · exact br_c (fun _ => hp) (fun _ => br_t (sv_34.mpr h) hp)
end
section
variable {un so ff gg wn zs tq my tg wd : Nat → Int32}
variable {post : Int32 → Prop} {U : Nat → Bool}
theorem sv_st_f {U : Nat → Bool} {c s : Nat} (h : (U c && s.testBit (c / 4)) = false) : sv_st U c s = s := by
  unfold sv_st
  rw [h]
  rfl
theorem sv_st_t {U : Nat → Bool} {c s : Nat} (h : (U c && s.testBit (c / 4)) = true) : sv_st U c s = s ||| 2 ^ (c % 4) := by
  unfold sv_st
  rw [h]
  rfl
theorem sv_ya34 {J25 : Int32 → Int32 → Prop} {x2 : Int32} {p s : Nat} (hs : s < 16) (K : J25 (nI (sv_ps U 16 s)) (nI (p + 1))) :
    ∀ k c, c + k = 16 → wY_atMost_34 post J25 x2 (nI p) (sv_bF U) so ff gg wn zs tq my tg wd (k + 1) (nI (sv_ps U c s)) (nI c) := by
  intro k
  induction k with
  | zero =>
    intro c hc
    have e : c = 16 := by omega
    subst e
    exact br_t (Int32.le_refl _) (nm_r (nI_1 p) K)
  | succ k ih =>
    intro c hc
    have ih' := ih (c + 1) (by omega)
    have ls := sv_ps_lt (U := U) hs c
    have hU : sv_bF U (nI c).toNatClampNeg = sv_bI (U c) := by rw [nI_clamp (by omega)]; rfl
    have hd : nI c / 4 = nI (c / 4) := pk_div (d := 4) (by omega) (by decide) (by decide)
    have hm : nI c - nI c / 4 * 4 = nI (c % 4) := pk_rem (d := 4) (by omega) (by decide) (by decide)
    refine br_f (nI_ge (b := 16) (by omega) (by decide)) (And.intro (vp_in_nI (by omega) (by decide)) ?_)
    cases hu : U c with
    | false =>
      refine br_t (by rw [hU, hu]; rfl) (nm_r (nI_1 c) ?_)
      have e : sv_ps U (c + 1) s = sv_ps U c s := sv_st_f (by rw [hu]; rfl)
      rw [e] at ih'
      exact ih'
    | true =>
      refine br_f (by rw [hU, hu]; decide) (And.intro (by decide) ?_)
      cases hb : (sv_ps U c s).testBit (c / 4) with
      | true =>
        refine br_t (by rw [hd]; exact (sv_tb1 (by omega) (by omega)).mpr hb) (And.intro (by decide) (nm_r (e' := nI (sv_ps U (c + 1) s)) ?_ (nm_r (nI_1 c) ih')))
        have e : sv_ps U (c + 1) s = sv_ps U c s ||| 2 ^ (c % 4) := sv_st_t (by rw [hu, hb]; rfl)
        rw [hm, sv_shl1 (by omega), sv_or, e]
      | false =>
        refine br_f (by rw [hd, sv_tb1 (by omega) (by omega), hb]; decide) (nm_r (nI_1 c) ?_)
        have e : sv_ps U (c + 1) s = sv_ps U c s := sv_st_f (by rw [hu, hb]; rfl)
        rw [e] at ih'
        exact ih'
theorem sv_ya25 {b s : Nat} (hs : s < 16) (hb : b < 4) (K : post (sv_bI ((sv_it U 4 s).testBit b))) :
    ∀ k p, p + k = 4 → wY_atMost_25 post (nI b) (sv_bF U) so ff gg wn zs tq my tg wd (k + 1) (nI (sv_it U p s)) (nI p) := by
  intro k
  induction k with
  | zero =>
    intro p hp
    have e : p = 4 := by omega
    subst e
    have ls := sv_it_lt (U := U) hs 4
    refine br_t (Int32.le_refl _) ?_
    cases ht : (sv_it U 4 s).testBit b with
    | true =>
      rw [ht] at K
      exact br_t ((sv_tb1 (by omega) (by omega)).mpr ht) K
    | false =>
      rw [ht] at K
      refine br_f (by rw [sv_tb1 (by omega) (by omega), ht]; decide) K
  | succ k ih =>
    intro p hp
    exact br_f (nI_ge (b := 4) (by omega) (by decide)) ⟨17, sv_ya34 (sv_it_lt hs p) (ih (p + 1) (by omega)) 16 0 rfl⟩
theorem sv_yam {a b : Nat} (ha : a < 4) (hb : b < 4) (K : post (sv_bI ((sv_YS U a).testBit b))) : wpY_atMost post (sv_bF U, so, ff, gg, wn, zs, tq, my, tg, wd) (nI a) (nI b) := by
  unfold wpY_atMost
  dsimp only
  refine sv_yst ha ?_
  refine br_f (by decide) ?_
  refine sv_yst hb ?_
  refine br_f (by decide) ?_
  exact nm_r (sv_shl1 (by omega)) ⟨5, sv_ya25 (sv_p4 a ha) hb K 4 0 rfl⟩
theorem sv_yam_f {a b : Int32} (h : sv_out a 4 ∨ sv_out b 4) (K : post 0) : wpY_atMost post (un, so, ff, gg, wn, zs, tq, my, tg, wd) a b := by
  unfold wpY_atMost
  dsimp only
  rcases sv_io a (n := 4) (by decide) with z | ⟨j, hj, rfl⟩
  · refine sv_ysf z ?_
    exact br_t rfl K
  · rcases h with y | y
    · exfalso
      rcases y with y | y
      · exact nI_pos (by omega) y
      · exact nI_ge hj (by decide) y
    · refine sv_yst hj ?_
      refine br_f (by decide) ?_
      refine sv_ysf y ?_
      exact br_t rfl K
/-- up -/
theorem sv_up4 : ∀ m, m < 16 → ∀ b, b < 4 → m % 2 ^ (b + 1) = m % 2 ^ b ||| (if m.testBit b = true then 2 ^ b else 0) := by decide +kernel
theorem sv_yu4 {a : Nat} (ha : a < 4) (K : post (nI (sv_YS U a))) :
    ∀ k b, b + k = 4 → wY_up_4 post (nI a) (sv_bF U) so ff gg wn zs tq my tg wd (k + 1) (nI (sv_YS U a % 2 ^ b)) (nI b) := by
  have l := sv_YS_lt (U := U) ha
  intro k
  induction k with
  | zero =>
    intro b hb
    have e : b = 4 := by omega
    subst e
    rw [Nat.mod_eq_of_lt (show sv_YS U a < 2 ^ 4 from l)]
    exact br_t (Int32.le_refl _) K
  | succ k ih =>
    intro b hb
    have ih' := ih (b + 1) (by omega)
    have e := sv_up4 (sv_YS U a) l b (by omega)
    refine br_f (nI_ge (b := 4) (by omega) (by decide)) (sv_yam ha (by omega) ?_)
    cases ht : (sv_YS U a).testBit b with
    | false =>
      rw [ht] at e
      refine br_t rfl (nm_r (e' := nI (sv_YS U a % 2 ^ (b + 1))) ?_ (nm_r (nI_1 b) ih'))
      rw [e]
      exact sv_or _ 0
    | true =>
      rw [ht] at e
      refine br_f (by decide) (nm_r (e' := nI (sv_YS U a % 2 ^ (b + 1))) ?_ (nm_r (nI_1 b) ih'))
      rw [e, sv_shl1 (by omega), sv_or]
      rfl
theorem sv_yup {a : Nat} (ha : a < 4) (K : post (nI (sv_YS U a))) : wpY_up post (sv_bF U, so, ff, gg, wn, zs, tq, my, tg, wd) (nI a) := by
  refine ⟨5, ?_⟩
  have := sv_yu4 (so := so) (ff := ff) (gg := gg) (wn := wn) (zs := zs) (tq := tq) (my := my) (tg := tg) (wd := wd) ha K 4 0 rfl
  rw [Nat.pow_zero, Nat.mod_one] at this
  exact this
end
end
section
/-! the reference: sorts, complete, findThings -/
section
variable {un so ff gg wn zs tq my tg wd : Nat → Int32}
variable {post : Int32 → Prop} {U F G : Nat → Bool} {C : Nat → Nat}
theorem sv_y157 {t one two : Nat} (ht : 6 ≤ t) (ht' : t < 15) (h1 : one < 16) (h2 : two < 16)
    (K : post (nI (sv_O (fun r => G r && (one.testBit (r / 16) && two.testBit (r / 4 % 4))) (fun r => sv_YS U (r % 4)) 64))) :
    ∀ k r, r + k = 64 → wY_sorts_157 post (nI t) (nI one) (nI two) (sv_bF U) so ff (sv_bF G) wn zs tq my tg wd (k + 1) (nI (sv_O (fun r => G r && (one.testBit (r / 16) && two.testBit (r / 4 % 4))) (fun r => sv_YS U (r % 4)) r)) (nI r) := by
  intro k
  induction k with
  | zero =>
    intro r hr
    have e : r = 64 := by omega
    subst e
    exact br_t (Int32.le_refl _) K
  | succ k ih =>
    intro r hr
    have ih' := ih (r + 1) (by omega)
    have hG : sv_bF G (nI r).toNatClampNeg = sv_bI (G r) := by rw [nI_clamp (by omega)]; rfl
    have hd : nI r / 16 = nI (r / 16) := pk_div (d := 16) (by omega) (by decide) (by decide)
    have hd4 : nI r / 4 = nI (r / 4) := pk_div (d := 4) (by omega) (by decide) (by decide)
    have hm4 : nI (r / 4) - nI (r / 4) / 4 * 4 = nI (r / 4 % 4) := pk_rem (d := 4) (by omega) (by decide) (by decide)
    have hm : nI r - nI r / 4 * 4 = nI (r % 4) := pk_rem (d := 4) (by omega) (by decide) (by decide)
    refine br_f (nI_ge (b := 64) (by omega) (by decide)) ?_
    refine br_f (nI_nlt (b := 6) ht (by omega)) ?_
    refine And.intro (vp_in_nI (by omega) (by decide)) ?_
    cases hg : G r with
    | false =>
      refine br_t (by rw [hG, hg]; rfl) (nm_r (nI_1 r) ?_)
      rw [sv_O_f (by rw [hg]; rfl)] at ih'
      exact ih'
    | true =>
      refine br_f (by rw [hG, hg]; decide) (And.intro (by decide) ?_)
      cases b1 : one.testBit (r / 16) with
      | false =>
        refine br_f (by rw [hd, sv_tb1 (by omega) (by omega), b1]; decide) (nm_r (nI_1 r) ?_)
        rw [sv_O_f (by rw [hg, b1]; rfl)] at ih'
        exact ih'
      | true =>
        refine br_t (by rw [hd]; exact (sv_tb1 (by omega) (by omega)).mpr b1) ?_
        refine And.intro (by decide) (And.intro (by decide) ?_)
        cases b2 : two.testBit (r / 4 % 4) with
        | false =>
          refine br_f (by rw [hd4, hm4, sv_tb1 (by omega) (by omega), b2]; decide) (nm_r (nI_1 r) ?_)
          rw [sv_O_f (by rw [hg, b1, b2]; rfl)] at ih'
          exact ih'
        | true =>
          refine br_t (by rw [hd4, hm4]; exact (sv_tb1 (by omega) (by omega)).mpr b2) ?_
          refine And.intro (by decide) ?_
          rw [hm]
          refine sv_yup (by omega) ?_
          refine nm_r (sv_or _ _) (nm_r (nI_1 r) ?_)
          rw [sv_O_t (by rw [hg, b1, b2]; rfl)] at ih'
          exact ih'
theorem sv_y157' {t : Nat} (ht : t < 6) {x2 x3 x4 : Int32} (K : post x4) : wY_sorts_157 post (nI t) x2 x3 un so ff gg wn zs tq my tg wd 1 x4 0 :=
  br_f (by decide) (br_t (nI_lt (b := 6) ht (by decide)) K)
theorem sv_y90 {t one : Nat} {x3 : Int32} (ht : 3 ≤ t) (ht' : t < 6) (h1 : one < 16)
    (K : post (nI (sv_O (fun r => F r && one.testBit (r / 4)) (fun r => sv_YS U (r % 4)) 16))) :
    ∀ k r, r + k = 16 → wY_sorts_90 post (nI t) (nI one) x3 (sv_bF U) so (sv_bF F) gg wn zs tq my tg wd (k + 1) (nI (sv_O (fun r => F r && one.testBit (r / 4)) (fun r => sv_YS U (r % 4)) r)) (nI r) := by
  intro k
  induction k with
  | zero =>
    intro r hr
    have e : r = 16 := by omega
    subst e
    exact br_t (Int32.le_refl _) ⟨1, sv_y157' ht' K⟩
  | succ k ih =>
    intro r hr
    have ih' := ih (r + 1) (by omega)
    have hF : sv_bF F (nI r).toNatClampNeg = sv_bI (F r) := by rw [nI_clamp (by omega)]; rfl
    have hd4 : nI r / 4 = nI (r / 4) := pk_div (d := 4) (by omega) (by decide) (by decide)
    have hm : nI r - nI r / 4 * 4 = nI (r % 4) := pk_rem (d := 4) (by omega) (by decide) (by decide)
    refine br_f (nI_ge (b := 16) (by omega) (by decide)) ?_
    refine br_f (nI_nlt (b := 3) ht (by omega)) ?_
    refine br_f (nI_ge (b := 6) ht' (by decide)) ?_
    refine And.intro (vp_in_nI (by omega) (by decide)) ?_
    cases hf : F r with
    | false =>
      refine br_t (by rw [hF, hf]; rfl) (nm_r (nI_1 r) ?_)
      rw [sv_O_f (by rw [hf]; rfl)] at ih'
      exact ih'
    | true =>
      refine br_f (by rw [hF, hf]; decide) (And.intro (by decide) ?_)
      cases b1 : one.testBit (r / 4) with
      | false =>
        refine br_f (by rw [hd4, sv_tb1 (by omega) (by omega), b1]; decide) (nm_r (nI_1 r) ?_)
        rw [sv_O_f (by rw [hf, b1]; rfl)] at ih'
        exact ih'
      | true =>
        refine br_t (by rw [hd4]; exact (sv_tb1 (by omega) (by omega)).mpr b1) ?_
        refine And.intro (by decide) ?_
        rw [hm]
        refine sv_yup (by omega) ?_
        refine nm_r (sv_or _ _) (nm_r (nI_1 r) ?_)
        rw [sv_O_t (by rw [hf, b1]; rfl)] at ih'
        exact ih'
theorem sv_y74a {t : Nat} {one : Nat} {z0 : Int32} (ht : t < 3) (K : post (nI one)) : wY_sorts_74 post (nI t) (nI one) z0 un so ff gg wn zs tq my tg wd :=
  br_f (nI_ge (b := 3) ht (by decide)) ⟨1, br_f (by decide) (br_t (nI_lt (b := 3) ht (by decide)) ⟨1, sv_y157' (by omega) K⟩)⟩
theorem sv_y74b {t one : Nat} {z0 : Int32} (ht : 3 ≤ t) (ht' : t < 6) (h1 : one < 16)
    (K : post (nI (sv_O (fun r => F r && one.testBit (r / 4)) (fun r => sv_YS U (r % 4)) 16))) : wY_sorts_74 post (nI t) (nI one) z0 (sv_bF U) so (sv_bF F) gg wn zs tq my tg wd :=
  br_t (nI_le (a := 3) ht (by omega)) ⟨17, sv_y90 ht ht' h1 K 16 0 rfl⟩
theorem sv_y74c {t one two : Nat} (ht : 6 ≤ t) (ht' : t < 15) (h1 : one < 16) (h2 : two < 16)
    (K : post (nI (sv_O (fun r => G r && (one.testBit (r / 16) && two.testBit (r / 4 % 4))) (fun r => sv_YS U (r % 4)) 64))) : wY_sorts_74 post (nI t) (nI one) (nI two) (sv_bF U) so ff (sv_bF G) wn zs tq my tg wd :=
  br_t (nI_le (a := 3) (by omega) (by omega)) ⟨1, br_f (by decide) (br_f (nI_nlt (b := 3) (by omega) (by omega)) (br_t (nI_le (a := 6) ht (by omega)) ⟨65, sv_y157 ht ht' h1 h2 K 64 0 rfl⟩))⟩
theorem sv_ysorts {t : Nat} (hC : ∀ j, C j < 4) (ht : t < 15) (K : post (nI (sv_SO U C F G t))) : wpY_sorts post (sv_bF U, sv_nF C, sv_bF F, sv_bF G, wn, zs, tq, my, tg, wd) (nI t) := by
  unfold sv_SO at K
  refine br_f (nI_pos (by omega)) (br_t (nI_le (b := 14) (by omega) (by decide)) ?_)
  rcases Nat.lt_or_ge t 3 with h3 | h3
  · rw [if_pos h3] at K
    refine br_f (nI_ge (b := 3) h3 (by decide)) (And.intro (vp_in_nI h3 (by decide)) ?_)
    have e : sv_nF C (nI t).toNatClampNeg = nI (C t) := by rw [nI_clamp (by omega)]; rfl
    rw [e]
    refine sv_yup (hC t) ?_
    exact br_f (nI_ge (b := 6) (by omega) (by decide)) (sv_y74a h3 K)
  · rw [if_neg (by omega)] at K
    refine br_t (nI_le (a := 3) h3 (by omega)) ?_
    rcases Nat.lt_or_ge t 6 with h6 | h6
    · rw [if_pos h6] at K
      have e0 : nI t - 3 = nI (t - 3) := pk_sub (b := 3) h3
      refine br_f (nI_ge (b := 6) h6 (by decide)) ?_
      rw [e0]
      refine And.intro (vp_in_nI (by omega) (by decide)) ?_
      have e : sv_nF C (nI (t - 3)).toNatClampNeg = nI (C (t - 3)) := by rw [nI_clamp (by omega)]; rfl
      rw [e]
      refine sv_yup (hC _) ?_
      exact br_f (nI_ge (b := 6) (by omega) (by decide)) (sv_y74b h3 h6 (sv_YS_lt (hC _)) K)
    · rw [if_neg (by omega)] at K
      have e6 : nI t - 6 = nI (t - 6) := pk_sub (b := 6) h6
      have e0 : nI (t - 6) / 3 = nI ((t - 6) / 3) := pk_div (d := 3) (by omega) (by decide) (by decide)
      have em : nI (t - 6) - nI (t - 6) / 3 * 3 = nI ((t - 6) % 3) := pk_rem (d := 3) (by omega) (by decide) (by decide)
      refine br_t (nI_le (a := 6) h6 (by omega)) (And.intro (by decide) ?_)
      rw [e6, e0]
      refine And.intro (vp_in_nI (by omega) (by decide)) ?_
      have e : sv_nF C (nI ((t - 6) / 3)).toNatClampNeg = nI (C ((t - 6) / 3)) := by rw [nI_clamp (by omega)]; rfl
      have e' : sv_nF C (nI ((t - 6) % 3)).toNatClampNeg = nI (C ((t - 6) % 3)) := by rw [nI_clamp (by omega)]; rfl
      rw [e]
      refine sv_yup (hC _) ?_
      refine br_t (nI_le (a := 6) h6 (by omega)) (And.intro (by decide) ?_)
      rw [e6, em]
      refine And.intro (vp_in_nI (by omega) (by decide)) ?_
      rw [e']
      refine sv_yup (hC _) ?_
      exact sv_y74c h6 ht (sv_YS_lt (hC _)) (sv_YS_lt (hC _)) K
end
section
variable {un so ff gg wn zs tq my tg wd : Nat → Int32}
variable {post : Int32 → Prop} {T S : Nat → Nat}
theorem sv_pn_le (T : Nat → Nat) (i : Nat) : ∀ n, sv_pn T i n ≤ n + 1
  | 0 => by rw [sv_pn_0]; omega
  | n + 1 => by
    have a := sv_pn_le T i n
    have b := sv_ar_le (T (i + n))
    rw [sv_pn_s]
    omega
theorem sv_yc15 {b : Nat} (hb : b < 2) (hS : ∀ j, S j ≤ 9) (hT : ∀ j, T j < 8) (hp : ∀ m, m < S b → 0 < sv_pn T (9 * b) m) (K : post (sv_bI (sv_cm T S b))) :
    ∀ k j, j + k = S b → wY_complete_15 post (nI b) un so ff gg wn (sv_nF S) (sv_nF T) my tg wd (k + 1) (nI (sv_pn T (9 * b) j)) (nI j) := by
  have s9 := hS b
  have eS : sv_nF S (nI b).toNatClampNeg = nI (S b) := by rw [nI_clamp (by omega)]; rfl
  intro k
  induction k with
  | zero =>
    intro j hj
    have e : j = S b := by omega
    subst e
    have l := sv_pn_le T (9 * b) (S b)
    refine And.intro (vp_in_nI hb (by decide)) (br_t (by rw [eS]; exact Int32.le_refl _) ?_)
    unfold sv_cm at K
    by_cases z : sv_pn T (9 * b) (S b) = 0
    · rw [decide_eq_true z] at K
      exact br_t (by rw [z]; rfl) K
    · rw [decide_eq_false z] at K
      exact br_f (nI_ne0 (by omega) (by omega)) K
  | succ k ih =>
    intro j hj
    have ih' := ih (j + 1) (by omega)
    have l := sv_pn_le T (9 * b) j
    have p := hp j (by omega)
    have t8 := hT (9 * b + j)
    have e9 : 9 * nI b + nI j = nI (9 * b + j) := by
      have : 9 * nI b = nI (9 * b) := pk_mul 9 b
      rw [this, nI_add]
    have eT : sv_nF T (nI (9 * b + j)).toNatClampNeg = nI (T (9 * b + j)) := by rw [nI_clamp (by omega)]; rfl
    refine And.intro (vp_in_nI hb (by decide)) (br_f (by rw [eS]; exact nI_ge (by omega) (by omega)) ?_)
    rw [e9]
    refine And.intro (vp_in_nI (by omega) (by decide)) (nm_r eT ?_)
    rw [sv_pn_s] at ih'
    generalize T (9 * b + j) = t at *
    refine pk_eq t 0 (fun z => nm_r (nI_1 j) ?_) (fun z => pk_eq t 1 (fun z1 => nm_r (nI_1 _) (nm_r (nI_1 j) ?_)) (fun z1 => nm_r (e' := nI (sv_pn T (9 * b) j - 1)) (pk_sub (b := 1) (by omega)) (nm_r (nI_1 j) ?_)))
    · rw [z, sv_ar0, Nat.add_sub_cancel] at ih'
      exact ih'
    · rw [z1, sv_ar1] at ih'
      exact ih'
    · rw [sv_ar2 (by omega)] at ih'
      exact ih'
theorem sv_ycm {b : Nat} (hb : b < 2) (hS : ∀ j, S j ≤ 9) (hT : ∀ j, T j < 8) (hp : ∀ m, m < S b → 0 < sv_pn T (9 * b) m) (K : post (sv_bI (sv_cm T S b))) :
    wpY_complete post (un, so, ff, gg, wn, sv_nF S, sv_nF T, my, tg, wd) (nI b) := by
  have h : ∃ n15 : Nat, wY_complete_15 post (nI b) un so ff gg wn (sv_nF S) (sv_nF T) my tg wd n15 1 0 := ⟨_, sv_yc15 hb hS hT hp K (S b) 0 (Nat.zero_add _)⟩
  rcases Nat.eq_zero_or_pos b with z | z
  · subst z
    exact br_t rfl h
  · have e : b = 1 := by omega
    subst e
    exact br_f (by decide) (br_t rfl h)
theorem sv_ycm_f {a : Int32} (h : sv_out a 2) (K : post 0) : wpY_complete post (un, so, ff, gg, wn, zs, tq, my, tg, wd) a := by
  have h0 : ¬ a = 0 := by
    intro e
    subst e
    rcases h with h | h
    · exact absurd h (by decide)
    · exact absurd h (by decide)
  have h1 : ¬ a = 1 := by
    intro e
    subst e
    rcases h with h | h
    · exact absurd h (by decide)
    · exact absurd h (by decide)
  exact br_f h0 (br_f h1 K)
end
end
section
/-! the reference: findThings, write, solves -/
def sv_mv (m V : Nat → Nat) (v n : Nat) : Nat := sv_O (fun t => (m t).testBit (V v)) (fun t => 2 ^ t) n
theorem sv_mv_b {m V : Nat → Nat} {v n b : Nat} : (sv_mv m V v n).testBit b = true ↔ b < n ∧ (m b).testBit (V v) = true := by
  unfold sv_mv
  rw [sv_O_b]
  constructor
  · rintro ⟨i, hi, hp, hb⟩
    rw [Nat.testBit_two_pow] at hb
    have e : i = b := of_decide_eq_true hb
    subst e
    exact ⟨hi, hp⟩
  · rintro ⟨hi, hp⟩
    exact ⟨b, hi, hp, Nat.testBit_two_pow_self⟩
theorem sv_mv_lt (m V : Nat → Nat) (v : Nat) : ∀ n, n ≤ 15 → sv_mv m V v n < 2 ^ 15 := by
  intro n hn
  refine Nat.lt_of_lt_of_le (?_ : _ < 2 ^ n) (Nat.pow_le_pow_right (by omega) hn)
  apply Nat.lt_pow_two_of_testBit
  intro i hi
  cases h : (sv_mv m V v n).testBit i with
  | false => rfl
  | true =>
    have := (sv_mv_b.mp h).1
    omega
theorem sv_mv_s (m V : Nat → Nat) (v n : Nat) : sv_mv m V v (n + 1) = sv_mv m V v n ||| ((m n).testBit (V v)).toNat * 2 ^ n := by
  unfold sv_mv
  cases h : (m n).testBit (V v) with
  | true => rw [sv_O_t (p := fun t => (m t).testBit (V v)) h]; simp
  | false => rw [sv_O_f (p := fun t => (m t).testBit (V v)) h]; simp
section
variable {un so ff gg wn zs tq my tg wd : Nat → Int32}
variable {post : SY → Prop} {m V : Nat → Nat}
theorem sv_yf36 {J22 : Int32 → (Nat → Int32) → (Nat → Int32) → (Nat → Int32) → (Nat → Int32) → (Nat → Int32) → (Nat → Int32) → (Nat → Int32) → (Nat → Int32) → (Nat → Int32) → (Nat → Int32) → Prop} {t : Nat} (ht : t < 15)
    (hm : m t < 16) (hV : ∀ j, V j < 4)
    (K : ∀ my', (∀ v, v < 3 → my' v = nI (sv_mv m V v (t + 1))) → J22 (nI (t + 1)) un so ff gg (sv_nF V) zs tq my' tg wd) :
    ∀ k v my, v + k = 3 → (∀ u, u < v → my u = nI (sv_mv m V u (t + 1))) → (∀ u, v ≤ u → u < 3 → my u = nI (sv_mv m V u t)) →
      wY_findThings_36 post J22 (nI t) (nI (m t)) (k + 1) (nI v) un so ff gg (sv_nF V) zs tq my tg wd := by
  intro k
  induction k with
  | zero =>
    intro v my hv h1 h2
    have e : v = 3 := by omega
    subst e
    exact br_t (Int32.le_refl _) (nm_r (nI_1 t) (K my h1))
  | succ k ih =>
    intro v my hv h1 h2
    have hi : vp_in (nI v) 3 := vp_in_nI (by omega) (by decide)
    have eV : sv_nF V (nI v).toNatClampNeg = nI (V v) := by rw [nI_clamp (by omega)]; rfl
    have em : my (nI v).toNatClampNeg = nI (sv_mv m V v t) := by rw [nI_clamp (by omega)]; exact h2 v (by omega) (by omega)
    have v4 := hV v
    refine br_f (nI_ge (b := 3) (by omega) (by decide)) (And.intro hi (And.intro hi (And.intro hi ?_)))
    have e1 : my (nI v).toNatClampNeg ||| (nI (m t) >>> (sv_nF V (nI v).toNatClampNeg &&& 31) &&& 1) <<< (nI t &&& 31) = nI (sv_mv m V v (t + 1)) := by
      have hb : ((m t).testBit (V v)).toNat ≤ 1 := Bool.toNat_le _
      have hp : ((m t).testBit (V v)).toNat * 2 ^ t < 2 ^ 32 := by
        have : 2 ^ t < 2 ^ 31 := Nat.pow_lt_pow_right (by omega) (by omega)
        have := Nat.mul_le_mul_right (2 ^ t) hb
        omega
      rw [em, eV, sv_tb (by omega) (by omega), sv_tbv, pk_shlN _ t (s_l t (by omega)) hp, sv_or, sv_mv_s]
    rw [e1]
    refine nm_e (nm_r (nI_1 v) ?_)
    refine ih (v + 1) _ (by omega) ?_ ?_
    · intro u hu
      rw [nI_clamp (by omega)]
      by_cases e : u = v
      · subst e
        exact pk_us
      · rw [pk_un e]
        exact h1 u (by omega)
    · intro u hu hu3
      rw [nI_clamp (by omega), pk_un (by omega)]
      exact h2 u (by omega) hu3
theorem sv_yf22 {U F G : Nat → Bool} {C : Nat → Nat} (hC : ∀ j, C j < 4) (hV : ∀ j, V j < 4)
    (K : ∀ my', (∀ v, v < 3 → my' v = nI (sv_mv (sv_SO U C F G) V v 15)) → post (sv_bF U, sv_nF C, sv_bF F, sv_bF G, sv_nF V, zs, tq, my', tg, wd)) :
    ∀ k t my, t + k = 15 → (∀ v, v < 3 → my v = nI (sv_mv (sv_SO U C F G) V v t)) →
      wY_findThings_22 post (k + 1) (nI t) (sv_bF U) (sv_nF C) (sv_bF F) (sv_bF G) (sv_nF V) zs tq my tg wd := by
  intro k
  induction k with
  | zero =>
    intro t my ht h
    have e : t = 15 := by omega
    subst e
    exact br_t (Int32.le_refl _) (K my h)
  | succ k ih =>
    intro t my ht h
    refine br_f (nI_ge (b := 15) (by omega) (by decide)) ?_
    refine sv_ysorts hC (by omega) ?_
    exact ⟨4, sv_yf36 (by omega) (sv_SO_lt hC t) hV (fun my' h' => ih (t + 1) my' (by omega) h') 3 0 my rfl (fun u hu => by omega) (fun u _ hu => h u hu)⟩
theorem sv_yft {U F G : Nat → Bool} {C : Nat → Nat} (hC : ∀ j, C j < 4) (hV : ∀ j, V j < 4)
    (K : ∀ my', (∀ v, v < 3 → my' v = nI (sv_mv (sv_SO U C F G) V v 15)) → post (sv_bF U, sv_nF C, sv_bF F, sv_bF G, sv_nF V, zs, tq, my', tg, wd)) :
    wpY_findThings post (sv_bF U, sv_nF C, sv_bF F, sv_bF G, sv_nF V, zs, tq, my, tg, wd) := by
  refine ⟨4, ?_⟩
  have key : ∀ k v my, v + k = 3 → (∀ u, u < v → my u = 0) → wY_findThings_2 post (k + 1) (nI v) (sv_bF U) (sv_nF C) (sv_bF F) (sv_bF G) (sv_nF V) zs tq my tg wd := by
    intro k
    induction k with
    | zero =>
      intro v my hv h
      have e : v = 3 := by omega
      subst e
      exact br_t (Int32.le_refl _) ⟨16, sv_yf22 hC hV K 15 0 my rfl h⟩
    | succ k ih =>
      intro v my hv h
      refine br_f (nI_ge (b := 3) (by omega) (by decide)) (And.intro (vp_in_nI (by omega) (by decide)) (nm_e (nm_r (nI_1 v) ?_)))
      refine ih (v + 1) _ (by omega) ?_
      intro u hu
      rw [nI_clamp (by omega)]
      by_cases e : u = v
      · subst e
        exact pk_us
      · rw [pk_un e]
        exact h u (by omega)
  exact key 3 0 my rfl (fun u hu => by omega)
end
/-! words in the array -/
def sv_wr (wd : Nat → Int32) : Nat → List Nat → Prop
  | _, [] => True
  | o, x :: l => wd o = nI x ∧ x < 16 ∧ sv_wr wd (o + 1) l
theorem sv_wr_a {wd : Nat → Int32} : ∀ {l l' : List Nat} {o : Nat}, sv_wr wd o l → sv_wr wd (o + l.length) l' → sv_wr wd o (l ++ l')
  | [], l', o, _, h' => h'
  | x :: l, l', o, h, h' => by
    refine ⟨h.1, h.2.1, sv_wr_a h.2.2 ?_⟩
    have e : o + (x :: l).length = o + 1 + l.length := by rw [List.length_cons]; omega
    rw [e] at h'
    exact h'
theorem sv_wr_u {wd wd' : Nat → Int32} : ∀ {l : List Nat} {o : Nat}, sv_wr wd o l → (∀ j, o ≤ j → j < o + l.length → wd' j = wd j) → sv_wr wd' o l
  | [], _, _, _ => trivial
  | x :: l, o, h, hj => by
    refine ⟨?_, h.2.1, sv_wr_u h.2.2 fun j h1 h2 => hj j (by omega) ?_⟩
    · rw [hj o (by omega) (by rw [List.length_cons]; omega)]
      exact h.1
    · rw [List.length_cons]
      omega
section
variable {un so ff gg wn zs tq my tg wd : Nat → Int32}
variable {post : Int32 → SY → Prop} {T S d : Nat → Nat}
theorem sv_yw7 {b : Nat} (hb : b < 2) (hS : ∀ j, S j ≤ 9) (hT : ∀ j, T j < 8) (hd : ∀ v, v < 3 → tg v = nI (d v)) (h15 : ∀ v, v < 3 → d v < 15) {w0 : Nat → Int32}
    (K : ∀ wd', sv_wr wd' (30 * b) (sv_cc T d (9 * b) (S b)) → (∀ j, j < 30 * b ∨ 30 * b + 27 ≤ j → wd' j = w0 j) → post (nI (sv_cc T d (9 * b) (S b)).length) (un, so, ff, gg, wn, sv_nF S, sv_nF T, my, tg, wd')) :
    ∀ n k wd, k + n = S b → sv_wr wd (30 * b) (sv_cc T d (9 * b) k) → (∀ j, j < 30 * b ∨ 30 * b + 27 ≤ j → wd j = w0 j) →
      wY_write_7 post (nI b) (n + 1) (nI (30 * b + (sv_cc T d (9 * b) k).length)) (nI k) un so ff gg wn (sv_nF S) (sv_nF T) my tg wd := by
  have s9 := hS b
  have eS : sv_nF S (nI b).toNatClampNeg = nI (S b) := by rw [nI_clamp (by omega)]; rfl
  intro n
  induction n with
  | zero =>
    intro k wd hk hw ho
    have e : k = S b := by omega
    subst e
    refine And.intro (vp_in_nI hb (by decide)) (br_t (by rw [eS]; exact Int32.le_refl _) ?_)
    have e3 : nI (30 * b + (sv_cc T d (9 * b) (S b)).length) - 30 * nI b = nI (sv_cc T d (9 * b) (S b)).length := by
      have : 30 * nI b = nI (30 * b) := pk_mul 30 b
      rw [this, pk_sub (by omega), Nat.add_sub_cancel_left]
    rw [e3]
    exact K wd hw ho
  | succ n ih =>
    intro k wd hk hw ho
    have t8 := hT (9 * b + k)
    have e9 : 9 * nI b + nI k = nI (9 * b + k) := by
      have : 9 * nI b = nI (9 * b) := pk_mul 9 b
      rw [this, nI_add]
    have eT : sv_nF T (nI (9 * b + k)).toNatClampNeg = nI (T (9 * b + k)) := by rw [nI_clamp (by omega)]; rfl
    have ll := sv_cc_len T d (9 * b) k
    have ecc : sv_cc T d (9 * b) (k + 1) = sv_cc T d (9 * b) k ++ sv_ex d (T (9 * b + k)) := rfl
    -- the step: what was written is the token's word
    have step : ∀ wd' L, L = sv_ex d (T (9 * b + k)) → sv_wr wd' (30 * b + (sv_cc T d (9 * b) k).length) L → (∀ j, j < 30 * b + (sv_cc T d (9 * b) k).length ∨ 30 * b + (sv_cc T d (9 * b) k).length + L.length ≤ j → wd' j = wd j) →
        wY_write_7 post (nI b) (n + 1) (nI (30 * b + (sv_cc T d (9 * b) k).length + L.length)) (nI (k + 1)) un so ff gg wn (sv_nF S) (sv_nF T) my tg wd' := by
      intro wd' L hL hw' ho'
      have lL : L.length ≤ 3 := by rw [hL]; exact sv_ex_len d _
      have := ih (k + 1) wd' (by omega)
      rw [ecc, ← hL, List.length_append, ← Nat.add_assoc] at this
      refine this (sv_wr_a (sv_wr_u hw fun j _ h2 => ho' j (Or.inl h2)) hw') ?_
      intro j hj
      rw [ho' j ?_]
      · exact ho j hj
      · omega
    refine And.intro (vp_in_nI hb (by decide)) (br_f (by rw [eS]; exact nI_ge (by omega) (by omega)) ?_)
    rw [e9]
    refine And.intro (vp_in_nI (by omega) (by decide)) (nm_r eT ?_)
    have o57 : 30 * b + (sv_cc T d (9 * b) k).length ≤ 54 := by omega
    generalize T (9 * b + k) = t at *
    generalize 30 * b + (sv_cc T d (9 * b) k).length = o at *
    refine pk_le 5 t (fun h5 => ?_) (fun h5 => ?_)
    · have e5 : nI t - 5 = nI (t - 5) := pk_sub (b := 5) h5
      rw [e5]
      refine And.intro (vp_in_nI (by omega) (by decide)) ?_
      have et : tg (nI (t - 5)).toNatClampNeg = nI (d (t - 5)) := by rw [nI_clamp (by omega)]; exact hd _ (by omega)
      rw [et]
      have e15 := h15 (t - 5) (by omega)
      have eX : sv_ex d t = sv_tw (d (t - 5)) := if_neg (by omega)
      rw [eX] at step
      generalize d (t - 5) = e at *
      have eo1 : nI o + 1 = nI (o + 1) := nI_1 o
      have eo2 : nI o + 2 = nI (o + 2) := nI_add o 2
      have eo3 : nI o + 3 = nI (o + 3) := nI_add o 3
      refine br_t (nI_pos' (by omega)) ?_
      refine pk_le 3 e (fun h3 => pk_le 6 e (fun h6 => ?_) (fun h6 => ?_)) (fun h3 => ?_)
      · have st := fun wd' => step wd' [1, 2 + (e - 6) / 3, 2 + (e - 6) % 3] (sv_tw9 h6).symm
        have e6 : nI e - 6 = nI (e - 6) := pk_sub (b := 6) h6
        have d3 : nI (e - 6) / 3 = nI ((e - 6) / 3) := pk_div (d := 3) (by omega) (by decide) (by decide)
        have m3 : nI (e - 6) - nI (e - 6) / 3 * 3 = nI ((e - 6) % 3) := pk_rem (d := 3) (by omega) (by decide) (by decide)
        have p3 : 2 + nI ((e - 6) / 3) = nI (2 + (e - 6) / 3) := nI_add 2 _
        have q3 : 2 + nI ((e - 6) % 3) = nI (2 + (e - 6) % 3) := nI_add 2 _
        refine And.intro (vp_in_nI (by omega) (by decide)) (nm_e ?_)
        refine And.intro (by decide) ?_
        rw [eo1]
        refine And.intro (vp_in_nI (by omega) (by decide)) (nm_e ?_)
        refine And.intro (by decide) ?_
        rw [eo2]
        refine And.intro (vp_in_nI (by omega) (by decide)) (nm_e ?_)
        refine nm_r eo3 (nm_r (nI_1 k) ?_)
        rw [e6, m3, d3, p3, q3, nI_clamp (by omega), nI_clamp (by omega), nI_clamp (by omega)]
        refine st _ ⟨?_, by omega, ?_, by omega, ?_, by omega, trivial⟩ ?_
        · rw [pk_un (by omega), pk_un (by omega), pk_us]
          rfl
        · rw [pk_un (by omega), pk_us]
        · rw [pk_us]
        · intro j hj
          simp only [List.length_cons, List.length_nil] at hj
          rw [pk_un (by omega), pk_un (by omega), pk_un (by omega)]
      · have st := fun wd' => step wd' [0, e - 1] (sv_tw6 h3 h6).symm
        have e1 : nI e - 1 = nI (e - 1) := pk_sub (b := 1) (by omega)
        refine And.intro (vp_in_nI (by omega) (by decide)) (nm_e ?_)
        rw [eo1]
        refine And.intro (vp_in_nI (by omega) (by decide)) (nm_e ?_)
        refine nm_r eo2 (nm_r (nI_1 k) ?_)
        rw [e1, nI_clamp (by omega), nI_clamp (by omega)]
        refine st _ ⟨?_, by omega, ?_, by omega, trivial⟩ ?_
        · rw [pk_un (by omega), pk_us]
          rfl
        · rw [pk_us]
        · intro j hj
          simp only [List.length_cons, List.length_nil] at hj
          rw [pk_un (by omega), pk_un (by omega)]
      · have st := fun wd' => step wd' [2 + e] (sv_tw3 (by omega)).symm
        have e1 : 2 + nI e = nI (2 + e) := nI_add 2 e
        refine And.intro (vp_in_nI (by omega) (by decide)) (nm_e ?_)
        refine nm_r eo1 (nm_r (nI_1 k) ?_)
        rw [e1, nI_clamp (by omega)]
        refine st _ ⟨?_, by omega, trivial⟩ ?_
        · rw [pk_us]
        · intro j hj
          simp only [List.length_cons, List.length_nil] at hj
          rw [pk_un (by omega)]
    · have st := fun wd' => step wd' [t] (if_pos h5 : sv_ex d t = [t]).symm
      refine br_f (by decide) ?_
      refine And.intro (vp_in_nI (by omega) (by decide)) (nm_e ?_)
      refine nm_r (nI_1 o) (nm_r (nI_1 k) ?_)
      rw [nI_clamp (by omega)]
      refine st _ ⟨?_, by omega, trivial⟩ ?_
      · rw [pk_us]
      · intro j hj
        simp only [List.length_cons, List.length_nil] at hj
        rw [pk_un (by omega)]
theorem sv_yw {b : Nat} (hb : b < 2) (hS : ∀ j, S j ≤ 9) (hT : ∀ j, T j < 8) (hd : ∀ v, v < 3 → tg v = nI (d v)) (h15 : ∀ v, v < 3 → d v < 15)
    (K : ∀ wd', sv_wr wd' (30 * b) (sv_cc T d (9 * b) (S b)) → (∀ j, j < 30 * b ∨ 30 * b + 27 ≤ j → wd' j = wd j) → post (nI (sv_cc T d (9 * b) (S b)).length) (un, so, ff, gg, wn, sv_nF S, sv_nF T, my, tg, wd')) :
    wpY_write post (un, so, ff, gg, wn, sv_nF S, sv_nF T, my, tg, wd) (nI b) := by
  refine nm_r (e' := nI (30 * b)) (pk_mul 30 b) ?_
  exact ⟨_, sv_yw7 hb hS hT hd h15 K (S b) 0 wd (Nat.zero_add _) trivial (fun _ _ => rfl)⟩
end
end
section
/-! the reference: solves, count, first, values -/
section
variable {un so ff gg wn zs tq my tg wd : Nat → Int32}
variable {post : Int32 → SY → Prop} {T S V m : Nat → Nat}
theorem sv_ys94z {x2 x5 : Int32} {n : Nat} (K : post 0 (un, so, ff, gg, wn, zs, tq, my, tg, wd)) : wY_solves_94 post x2 un so ff gg wn zs tq my tg wd (n + 1) 0 x5 :=
  br_c (fun _ => ⟨by rfl, K⟩) (fun _ => br_t rfl ⟨by rfl, K⟩)
theorem sv_ys94 : ∀ (l l' : List Nat) (k n : Nat), n = k + l.length → l.length = l'.length → n ≤ 27 → sv_wr wd k l → sv_wr wd (30 + k) l' → post (sv_bI (decide (l = l'))) (un, so, ff, gg, wn, zs, tq, my, tg, wd) →
    wY_solves_94 post (nI n) un so ff gg wn zs tq my tg wd (l.length + 1) 1 (nI k)
  | [], l', k, n, hn, hl, hb, _, _, K => by
    have e : n = k := hn
    have e' : l' = [] := List.eq_nil_of_length_eq_zero hl.symm
    subst e
    subst e'
    exact br_t (Int32.le_refl _) ⟨by rfl, K⟩
  | a :: l, [], k, n, hn, hl, hb, _, _, K => by
    rw [List.length_cons] at hl
    exact absurd hl (by simp)
  | a :: l, a' :: l', k, n, hn, hl, hb, h, h', K => by
    rw [List.length_cons] at hn
    rw [List.length_cons, List.length_cons] at hl
    have e30 : 30 + nI k = nI (30 + k) := nI_add 30 k
    have e1 : wd (nI k).toNatClampNeg = nI a := by rw [nI_clamp (by omega)]; exact h.1
    have e2 : wd (nI (30 + k)).toNatClampNeg = nI a' := by rw [nI_clamp (by omega)]; exact h'.1
    have la := h.2.1
    have la' := h'.2.1
    show wY_solves_94 post (nI n) un so ff gg wn zs tq my tg wd (l.length + 1 + 1) 1 (nI k)
    refine br_f (nI_ge (by omega) (by omega)) (br_f (by decide) (And.intro (vp_in_nI (by omega) (by decide)) ?_))
    rw [e30]
    refine And.intro (vp_in_nI (by omega) (by decide)) ?_
    rw [e1, e2]
    refine pk_eq a a' (fun e => nm_r (nI_1 k) ?_) (fun e => nm_r (nI_1 k) (sv_ys94z ?_))
    · subst e
      refine sv_ys94 l l' (k + 1) n (by omega) (by omega) hb h.2.2 h'.2.2 ?_
      have ed : decide (a :: l = a :: l') = decide (l = l') := by simp
      rw [ed] at K
      exact K
    · have ed : decide (a :: l = a' :: l') = false := by
        apply decide_eq_false
        intro q
        exact e (List.cons.inj q).1
      rw [ed] at K
      exact K
theorem sv_ysv {w : Nat} (hw : w < 3375) (hS : ∀ j, S j ≤ 9) (hT : ∀ j, T j < 8) (hV : ∀ j, V j < 4) (hm : ∀ v, v < 3 → my v = nI (sv_mv m V v 15))
    (K : ∀ tg' wd', (∀ v, v < 3 → tg' v = nI (sv_dg v w)) → post (sv_bI (sv_sol m V T S w)) (un, so, ff, gg, sv_nF V, sv_nF S, sv_nF T, my, tg', wd')) :
    wpY_solves post (un, so, ff, gg, sv_nF V, sv_nF S, sv_nF T, my, tg, wd) (nI w) := by
  have e225 : nI w / 225 = nI (sv_dg 0 w) := pk_div (d := 225) (by omega) (by decide) (by decide)
  have e15 : nI w / 15 = nI (w / 15) := pk_div (d := 15) (by omega) (by decide) (by decide)
  have m15 : nI (w / 15) - nI (w / 15) / 15 * 15 = nI (sv_dg 1 w) := pk_rem (d := 15) (by omega) (by decide) (by decide)
  have l15 : nI w - nI w / 15 * 15 = nI (sv_dg 2 w) := pk_rem (d := 15) (by omega) (by decide) (by decide)
  refine And.intro (by decide) ?_
  rw [e225]
  refine nm_e ?_
  refine And.intro (by decide) (And.intro (by decide) ?_)
  rw [l15, e15, m15]
  refine nm_e (And.intro (by decide) (nm_e ?_))
  have ht : ∀ v, v < 3 → upd (upd (upd tg 0 (nI (sv_dg 0 w))) 1 (nI (sv_dg 1 w))) 2 (nI (sv_dg 2 w)) v = nI (sv_dg v w) := by
    apply sv_v3
    · rw [pk_un (by omega), pk_un (by omega), pk_us]
    · rw [pk_un (by omega), pk_us]
    · rw [pk_us]
  generalize upd (upd (upd tg 0 (nI (sv_dg 0 w))) 1 (nI (sv_dg 1 w))) 2 (nI (sv_dg 2 w)) = tg' at *
  have K' := K tg'
  -- the words
  have fin : (∀ v, v < 3 → (m (sv_dg v w)).testBit (V v) = true) → wY_solves_36 post un so ff gg (sv_nF V) (sv_nF S) (sv_nF T) my tg' wd 1 3 := by
    intro hb
    refine br_t (Int32.le_refl _) ?_
    refine sv_yw (b := 0) (d := fun v => sv_dg v w) (by omega) hS hT ht (fun v _ => sv_dg_lt hw v) ?_
    intro wd1 w1 o1
    refine sv_yw (b := 1) (d := fun v => sv_dg v w) (by omega) hS hT ht (fun v _ => sv_dg_lt hw v) ?_
    intro wd2 w2 o2
    have s0 := hS 0
    have s1 := hS 1
    have l0 := sv_cc_len T (fun v => sv_dg v w) (9 * 0) (S 0)
    have l1 := sv_cc_len T (fun v => sv_dg v w) (9 * 1) (S 1)
    have w0 : sv_wr wd2 (30 * 0) (sv_cc T (fun v => sv_dg v w) (9 * 0) (S 0)) := sv_wr_u w1 fun j h1 h2 => o2 j (Or.inl (by omega))
    have es : sv_sol m V T S w = decide (sv_cc T (fun v => sv_dg v w) 0 (S 0) = sv_cc T (fun v => sv_dg v w) 9 (S 1)) := by
      unfold sv_sol
      rw [hb 0 (by omega), hb 1 (by omega), hb 2 (by omega)]
      rfl
    have k2 := K' wd2 ht
    rw [es] at k2
    show ((nI (sv_cc T (fun v => sv_dg v w) (9 * 0) (S 0)).length = nI (sv_cc T (fun v => sv_dg v w) (9 * 1) (S 1)).length → _) ∧ (¬ nI (sv_cc T (fun v => sv_dg v w) (9 * 0) (S 0)).length = nI (sv_cc T (fun v => sv_dg v w) (9 * 1) (S 1)).length → _))
    refine pk_eq _ _ (fun e => ?_) (fun e => ?_) rfl rfl (by omega) (by omega)
    · exact ⟨_, sv_ys94 _ _ 0 _ (by omega) e (by omega) w0 w2 k2⟩
    · refine ⟨1, sv_ys94z ?_⟩
      have ed : decide (sv_cc T (fun v => sv_dg v w) 0 (S 0) = sv_cc T (fun v => sv_dg v w) 9 (S 1)) = false := by
        apply decide_eq_false
        intro q
        exact e (congrArg List.length q)
      rw [ed] at k2
      exact k2
  have go : ∀ n v, v + n = 3 → (∀ u, u < v → (m (sv_dg u w)).testBit (V u) = true) → wY_solves_36 post un so ff gg (sv_nF V) (sv_nF S) (sv_nF T) my tg' wd (n + 1) (nI v) := by
    intro n
    induction n with
    | zero =>
      intro v hv hb
      have e : v = 3 := by omega
      subst e
      exact fin hb
    | succ n ih =>
      intro v hv hb
      have hi : vp_in (nI v) 3 := vp_in_nI (by omega) (by decide)
      have em : my (nI v).toNatClampNeg = nI (sv_mv m V v 15) := by rw [nI_clamp (by omega)]; exact hm v (by omega)
      have et : tg' (nI v).toNatClampNeg = nI (sv_dg v w) := by rw [nI_clamp (by omega)]; exact ht v (by omega)
      have lm := sv_mv_lt m V v 15 (by omega)
      have ld := sv_dg_lt hw v
      refine br_f (nI_ge (b := 3) (by omega) (by decide)) (And.intro hi (And.intro hi ?_))
      rw [em, et]
      cases hq : (m (sv_dg v w)).testBit (V v) with
      | true =>
        have : (sv_mv m V v 15).testBit (sv_dg v w) = true := sv_mv_b.mpr ⟨ld, hq⟩
        refine br_f (by rw [sv_tb0 (by omega) (by omega), this]; decide) (nm_r (nI_1 v) ?_)
        refine ih (v + 1) (by omega) ?_
        intro u hu
        by_cases e : u = v
        · subst e; exact hq
        · exact hb u (by omega)
      | false =>
        have : (sv_mv m V v 15).testBit (sv_dg v w) = false := by
          cases q : (sv_mv m V v 15).testBit (sv_dg v w) with
          | false => rfl
          | true =>
            have := (sv_mv_b.mp q).2
            rw [hq] at this
            exact this.symm
        refine br_t ((sv_tb0 (by omega) (by omega)).mpr this) ?_
        have es : sv_sol m V T S w = false := by
          cases q : sv_sol m V T S w with
          | false => rfl
          | true =>
            have := (sv_sol_i.mp q).1 v (by omega)
            rw [hq] at this
            exact this.symm
        have k2 := K' wd ht
        rw [es] at k2
        exact k2
  exact ⟨4, go 3 0 rfl (fun u hu => by omega)⟩
end
section
variable {un so ff gg wn zs tq my tg wd : Nat → Int32}
variable {post : Int32 → SY → Prop} {T S V m : Nat → Nat}
/-- count's loop: P is what it counts -/
theorem sv_yn28 {v u : Nat} {x2 : Int32} (hv : v < 3) (hu : u < 3) (hS : ∀ j, S j ≤ 9) (hT : ∀ j, T j < 8) (hV : ∀ j, V j < 4) (hm : ∀ v, v < 3 → my v = nI (sv_mv m V v 15)) (P : Nat → Bool)
    (hP0 : ∀ c, c < 3375 → sv_sol m V T S c = false → P c = false)
    (hP1 : ∀ c, c < 3375 → sv_sol m V T S c = true → (x2 < 0 ∧ P c = decide (sv_dg v c = sv_dg u c)) ∨ (¬ x2 < 0 ∧ u = v ∧ (nI (sv_dg v c) = x2 ↔ P c = true)))
    (K : ∀ tg' wd', post (nI (sv_ct P 3375)) (un, so, ff, gg, sv_nF V, sv_nF S, sv_nF T, my, tg', wd')) :
    ∀ n c tg wd, c + n = 3375 → wY_count_28 post (nI v) x2 (nI u) (n + 1) (nI (sv_ct P c)) (nI c) un so ff gg (sv_nF V) (sv_nF S) (sv_nF T) my tg wd := by
  intro n
  induction n with
  | zero =>
    intro c tg wd hc
    have e : c = 3375 := by omega
    subst e
    exact br_t (Int32.le_refl _) (K tg wd)
  | succ n ih =>
    intro c tg wd hc
    refine br_f (nI_ge (b := 3375) (by omega) (by decide)) ?_
    refine sv_ysv (by omega) hS hT hV hm ?_
    intro tg' wd' ht
    have i' := ih (c + 1) tg' wd' (by omega)
    have es : sv_ct P (c + 1) = sv_ct P c + (P c).toNat := rfl
    rw [es] at i'
    have et : tg' (nI v).toNatClampNeg = nI (sv_dg v c) := by rw [nI_clamp (by omega)]; exact ht v hv
    have eu : tg' (nI u).toNatClampNeg = nI (sv_dg u c) := by rw [nI_clamp (by omega)]; exact ht u hu
    have lv := sv_dg_lt (w := c) (by omega) v
    have lu := sv_dg_lt (w := c) (by omega) u
    cases hs : sv_sol m V T S c with
    | false =>
      refine br_t rfl (nm_r (nI_1 c) ?_)
      rw [hP0 c (by omega) hs] at i'
      exact i'
    | true =>
      refine br_f (by decide) ?_
      have r59 : (P c = decide (sv_dg v c = sv_dg u c)) → wY_count_59 post (wY_count_28 post (nI v) x2 (nI u) (n + 1)) (nI v) x2 (nI u) (nI (sv_ct P c)) (nI c) un so ff gg (sv_nF V) (sv_nF S) (sv_nF T) my tg' wd' := by
        intro hp
        refine And.intro (vp_in_nI hv (by decide)) (And.intro (vp_in_nI hu (by decide)) ?_)
        rw [et, eu]
        refine pk_eq _ _ (fun e => ?_) (fun e => ?_) rfl rfl (by omega) (by omega)
        · rw [hp, decide_eq_true e] at i'
          exact nm_r (nI_1 _) (nm_r (nI_1 c) i')
        · rw [hp, decide_eq_false e] at i'
          exact nm_r (nI_1 c) i'
      rcases hP1 c (by omega) hs with ⟨hx, hp⟩ | ⟨hx, huv, hp⟩
      · exact br_t hx (r59 hp)
      · refine br_f hx (And.intro (vp_in_nI hv (by decide)) ?_)
        rw [et]
        refine br_c (fun h => ?_) (fun h => ?_)
        · refine r59 ?_
          rw [hp.mp h, huv]
          exact (decide_eq_true rfl).symm
        · have : P c = false := by
            cases q : P c with
            | false => rfl
            | true => exact absurd (hp.mpr q) h
          rw [this] at i'
          exact nm_r (nI_1 c) i'
end
end
section
/-! the reference: count, first, values -/
section
variable {un so ff gg wn zs tq my tg wd : Nat → Int32}
variable {post : Int32 → SY → Prop} {T S V C : Nat → Nat} {U F G : Nat → Bool}
theorem sv_ycnt {v u : Nat} {x2 : Int32} (hv : v < 3) (hu : u < 3) (hS : ∀ j, S j ≤ 9) (hT : ∀ j, T j < 8) (hV : ∀ j, V j < 4) (hC : ∀ j, C j < 4)
    (hp : ∀ b, b < 2 → ∀ m, m < S b → 0 < sv_pn T (9 * b) m) (P : Nat → Bool)
    (hP0 : ∀ c, c < 3375 → sv_sol (sv_SO U C F G) V T S c = false → P c = false)
    (hP1 : ∀ c, c < 3375 → sv_sol (sv_SO U C F G) V T S c = true → (x2 < 0 ∧ P c = decide (sv_dg v c = sv_dg u c)) ∨ (¬ x2 < 0 ∧ u = v ∧ (nI (sv_dg v c) = x2 ↔ P c = true)))
    (K : ∀ my' tg' wd', post (nI (sv_ct (fun c => (sv_cm T S 0 && sv_cm T S 1) && P c) 3375)) (sv_bF U, sv_nF C, sv_bF F, sv_bF G, sv_nF V, sv_nF S, sv_nF T, my', tg', wd')) :
    wpY_count post (sv_bF U, sv_nF C, sv_bF F, sv_bF G, sv_nF V, sv_nF S, sv_nF T, my, tg, wd) (nI v) x2 (nI u) := by
  unfold wpY_count
  dsimp only
  refine sv_ycm (b := 0) (by omega) hS hT (hp 0 (by omega)) ?_
  cases h0 : sv_cm T S 0 with
  | false =>
    rw [h0] at K
    have e : sv_ct (fun c => (false && sv_cm T S 1) && P c) 3375 = 0 := sv_ct_0 (fun _ _ => rfl)
    rw [e] at K
    exact br_t rfl (K my tg wd)
  | true =>
    refine br_f (by decide) ?_
    refine sv_ycm (b := 1) (by omega) hS hT (hp 1 (by omega)) ?_
    rw [h0] at K
    cases h1 : sv_cm T S 1 with
    | false =>
      rw [h1] at K
      have e : sv_ct (fun c => (true && false) && P c) 3375 = 0 := sv_ct_0 (fun _ _ => rfl)
      rw [e] at K
      exact br_t rfl (K my tg wd)
    | true =>
      rw [h1] at K
      refine br_f (by decide) ?_
      refine sv_yft hC hV ?_
      intro my' hm
      exact ⟨_, sv_yn28 hv hu hS hT hV hm P hP0 hP1 (fun tg' wd' => K my' tg' wd') 3375 0 tg wd (by omega)⟩
theorem sv_yfi {v : Nat} (hv : v < 3) (hS : ∀ j, S j ≤ 9) (hT : ∀ j, T j < 8) (hV : ∀ j, V j < 4) (hC : ∀ j, C j < 4)
    (hp : ∀ b, b < 2 → ∀ m, m < S b → 0 < sv_pn T (9 * b) m)
    (K1 : ∀ w, w < 3375 → sv_Q (sv_SO U C F G) V T S w = true → (∀ x, x < w → sv_Q (sv_SO U C F G) V T S x = false) → ∀ my' tg' wd', post (nI (sv_dg v w)) (sv_bF U, sv_nF C, sv_bF F, sv_bF G, sv_nF V, sv_nF S, sv_nF T, my', tg', wd'))
    (K2 : (∀ x, x < 3375 → sv_Q (sv_SO U C F G) V T S x = false) → ∀ my' tg' wd', post (-1) (sv_bF U, sv_nF C, sv_bF F, sv_bF G, sv_nF V, sv_nF S, sv_nF T, my', tg', wd')) :
    wpY_first post (sv_bF U, sv_nF C, sv_bF F, sv_bF G, sv_nF V, sv_nF S, sv_nF T, my, tg, wd) (nI v) := by
  unfold wpY_first
  dsimp only
  refine sv_ycm (b := 0) (by omega) hS hT (hp 0 (by omega)) ?_
  cases h0 : sv_cm T S 0 with
  | false => exact br_t rfl (K2 (fun x _ => by unfold sv_Q; rw [h0]; rfl) my tg wd)
  | true =>
    refine br_f (by decide) ?_
    refine sv_ycm (b := 1) (by omega) hS hT (hp 1 (by omega)) ?_
    cases h1 : sv_cm T S 1 with
    | false => exact br_t rfl (K2 (fun x _ => by unfold sv_Q; rw [h1, Bool.and_false]; rfl) my tg wd)
    | true =>
      have eq : ∀ w, sv_Q (sv_SO U C F G) V T S w = sv_sol (sv_SO U C F G) V T S w := by
        intro w
        unfold sv_Q
        rw [h0, h1]
        rfl
      refine br_f (by decide) ?_
      refine br_f (nI_pos (by omega)) (br_t (nI_le (b := 2) (by omega) (by decide)) ?_)
      refine sv_yft hC hV ?_
      intro my' hm
      have key : ∀ n c tg wd, c + n = 3375 → (∀ x, x < c → sv_Q (sv_SO U C F G) V T S x = false) → wY_first_33 post (nI v) (n + 1) (nI c) (sv_bF U) (sv_nF C) (sv_bF F) (sv_bF G) (sv_nF V) (sv_nF S) (sv_nF T) my' tg wd := by
        intro n
        induction n with
        | zero =>
          intro c tg wd hc hx
          have e : c = 3375 := by omega
          subst e
          exact br_t (Int32.le_refl _) (K2 hx my' tg wd)
        | succ n ih =>
          intro c tg wd hc hx
          refine br_f (nI_ge (b := 3375) (by omega) (by decide)) ?_
          refine sv_ysv (by omega) hS hT hV hm ?_
          intro tg' wd' ht
          have et : tg' (nI v).toNatClampNeg = nI (sv_dg v c) := by rw [nI_clamp (by omega)]; exact ht v hv
          cases hs : sv_sol (sv_SO U C F G) V T S c with
          | false =>
            refine br_t rfl (nm_r (nI_1 c) (ih (c + 1) tg' wd' (by omega) ?_))
            intro x hx'
            by_cases e : x = c
            · subst e; rw [eq]; exact hs
            · exact hx x (by omega)
          | true =>
            refine br_f (by decide) (And.intro (vp_in_nI hv (by decide)) ?_)
            rw [et]
            exact K1 c (by omega) (by rw [eq]; exact hs) hx my' tg' wd'
      exact ⟨_, key 3375 0 tg wd (by omega) (fun x hx => by omega)⟩
theorem sv_yva {v : Nat} (hv : v < 3) (hS : ∀ j, S j ≤ 9) (hT : ∀ j, T j < 8) (hV : ∀ j, V j < 4) (hC : ∀ j, C j < 4)
    (hp : ∀ b, b < 2 → ∀ m, m < S b → 0 < sv_pn T (9 * b) m)
    (K : ∀ my' tg' wd', post (nI (sv_O (sv_Q (sv_SO U C F G) V T S) (fun c => 2 ^ sv_dg v c) 3375)) (sv_bF U, sv_nF C, sv_bF F, sv_bF G, sv_nF V, sv_nF S, sv_nF T, my', tg', wd')) :
    wpY_values post (sv_bF U, sv_nF C, sv_bF F, sv_bF G, sv_nF V, sv_nF S, sv_nF T, my, tg, wd) (nI v) := by
  have z0 : (∀ x, sv_Q (sv_SO U C F G) V T S x = false) → sv_O (sv_Q (sv_SO U C F G) V T S) (fun c => 2 ^ sv_dg v c) 3375 = 0 := by
    intro h
    apply sv_ext
    intro i
    rw [sv_O_b]
    constructor
    · rintro ⟨c, _, hc, _⟩
      rw [h c] at hc
      exact absurd hc (by decide)
    · intro z
      rw [Nat.zero_testBit] at z
      exact absurd z (by decide)
  unfold wpY_values
  dsimp only
  refine sv_ycm (b := 0) (by omega) hS hT (hp 0 (by omega)) ?_
  cases h0 : sv_cm T S 0 with
  | false =>
    rw [z0 (fun x => by unfold sv_Q; rw [h0]; rfl)] at K
    exact br_t rfl (K my tg wd)
  | true =>
    refine br_f (by decide) ?_
    refine sv_ycm (b := 1) (by omega) hS hT (hp 1 (by omega)) ?_
    cases h1 : sv_cm T S 1 with
    | false =>
      rw [z0 (fun x => by unfold sv_Q; rw [h1, Bool.and_false]; rfl)] at K
      exact br_t rfl (K my tg wd)
    | true =>
      have eq : ∀ w, sv_Q (sv_SO U C F G) V T S w = sv_sol (sv_SO U C F G) V T S w := by
        intro w
        unfold sv_Q
        rw [h0, h1]
        rfl
      refine br_f (by decide) ?_
      refine br_f (nI_pos (by omega)) (br_t (nI_le (b := 2) (by omega) (by decide)) ?_)
      refine sv_yft hC hV ?_
      intro my' hm
      have key : ∀ n c tg wd, c + n = 3375 → wY_values_35 post (nI v) (n + 1) (nI (sv_O (sv_Q (sv_SO U C F G) V T S) (fun c => 2 ^ sv_dg v c) c)) (nI c) (sv_bF U) (sv_nF C) (sv_bF F) (sv_bF G) (sv_nF V) (sv_nF S) (sv_nF T) my' tg wd := by
        intro n
        induction n with
        | zero =>
          intro c tg wd hc
          have e : c = 3375 := by omega
          subst e
          exact br_t (Int32.le_refl _) (K my' tg wd)
        | succ n ih =>
          intro c tg wd hc
          refine br_f (nI_ge (b := 3375) (by omega) (by decide)) ?_
          refine sv_ysv (by omega) hS hT hV hm ?_
          intro tg' wd' ht
          have et : tg' (nI v).toNatClampNeg = nI (sv_dg v c) := by rw [nI_clamp (by omega)]; exact ht v hv
          have ld := sv_dg_lt (w := c) (by omega) v
          have i' := ih (c + 1) tg' wd' (by omega)
          cases hs : sv_sol (sv_SO U C F G) V T S c with
          | false =>
            refine br_t rfl (nm_r (nI_1 c) ?_)
            rw [sv_O_f (by rw [eq]; exact hs)] at i'
            exact i'
          | true =>
            refine br_f (by decide) (And.intro (vp_in_nI hv (by decide)) ?_)
            rw [et, sv_shl1 (by omega), sv_or]
            refine nm_e (nm_r (nI_1 c) ?_)
            rw [sv_O_t (by rw [eq]; exact hs)] at i'
            exact i'
      exact ⟨_, key 3375 0 tg wd (by omega)⟩
end
/-- the same set of values out of the counts -/
theorem sv_vals {q : Nat → Bool} {v : Nat} : sv_O (fun t => decide (0 < sv_ct (fun w => q w && decide (sv_dg v w = t)) 3375)) (fun t => 2 ^ t) 15 = sv_O q (fun c => 2 ^ sv_dg v c) 3375 := by
  apply sv_ext
  intro i
  rw [sv_O_b, sv_O_b]
  constructor
  · rintro ⟨t, ht, h, hb⟩
    rw [Nat.testBit_two_pow] at hb
    have e : t = i := of_decide_eq_true hb
    subst e
    obtain ⟨w, hw, hq⟩ := sv_ct_ex (of_decide_eq_true h)
    rw [Bool.and_eq_true] at hq
    refine ⟨w, hw, hq.1, ?_⟩
    rw [of_decide_eq_true hq.2]
    exact Nat.testBit_two_pow_self
  · rintro ⟨w, hw, hq, hb⟩
    rw [Nat.testBit_two_pow] at hb
    have e : sv_dg v w = i := of_decide_eq_true hb
    have l := sv_dg_lt hw v
    refine ⟨i, by omega, ?_, Nat.testBit_two_pow_self⟩
    apply decide_eq_true
    refine sv_ct_pos (a := w) ?_ hw
    rw [hq, e]
    simp
end
section
/-! the component: sorts of things -/
theorem sv_xst {post : Int32 → Prop} {j : Nat} (h : j < 4) (hp : post 1) : wpX_isSort post (nI j) :=
  br_f (nI_pos (by omega)) (br_f (nI_ge (b := 4) h (by decide)) hp)
theorem sv_xsf {post : Int32 → Prop} {a : Int32} (h : sv_out a 4) (hp : post 0) : wpX_isSort post a := by
  rcases h with h | h
  · exact br_t h hp
  · exact br_c (fun _ => hp) (fun _ => br_t h hp)
theorem sv_xvt {post : Int32 → Prop} {j : Nat} (h : j < 3) (hp : post 1) : wpX_isVariable post (nI j) :=
  br_f (nI_pos (by omega)) (br_f (nI_ge (b := 3) h (by decide)) hp)
theorem sv_xvf {post : Int32 → Prop} {a : Int32} (h : sv_out a 3) (hp : post 0) : wpX_isVariable post a := by
  rcases h with h | h
  · exact br_t h hp
  · exact br_c (fun _ => hp) (fun _ => br_t h hp)
def sv_fm (n s : Nat) : Nat := n / 2 ^ (4 * s) % 16
theorem sv_fm_b {n s t : Nat} (ht : t < 4) : (sv_fm n s).testBit t = n.testBit (4 * s + t) := by
  unfold sv_fm
  have e : (16 : Nat) = 2 ^ 4 := rfl
  rw [e, Nat.testBit_mod_two_pow, Nat.testBit_div_two_pow, decide_eq_true ht, Bool.true_and]
  rw [Nat.add_comm]
theorem sv_fm_lt (n s : Nat) : sv_fm n s < 2 ^ 4 := Nat.mod_lt _ (by decide)
theorem sv_fmI {n s : Nat} (hn : n < 2 ^ 31) (hs : s < 8) : (nI n >>> ((4 * nI s) &&& 31)) &&& 15 = nI (sv_fm n s) := by
  have e : 4 * nI s = nI (4 * s) := pk_mul 4 s
  have h : n / 2 ^ (4 * s) < 2 ^ 32 := Nat.lt_of_le_of_lt (Nat.div_le_self _ _) (by omega)
  rw [e, sv_shr hn (by omega), pk_andN h (m := 15) 4 (by decide)]
  rfl
theorem sv_fmL {n i : Nat} (hn : n < 2 ^ 64) (hi : i < 16) : (((lN n).toUInt64 >>> ((4 * nI i).toInt64.toUInt64 &&& Int64.toUInt64 63)).toInt64).toInt32 &&& 15 = nI (sv_fm n i) := by
  have e : 4 * nI i = nI (4 * i) := pk_mul 4 i
  rw [e, wb_shr hn (by omega), lN_i, pk_and _ (m := 15) 4 (by decide)]
  have e2 : (nI (n / 2 ^ (4 * i))).toBitVec.toNat = n / 2 ^ (4 * i) % 2 ^ 32 := BitVec.toNat_ofNat _ _
  rw [e2]
  unfold sv_fm
  congr 1
  omega
theorem sv_SO_1 {U : Nat → Bool} {C : Nat → Nat} {F G : Nat → Bool} {t : Nat} (h : t < 3) : sv_SO U C F G t = sv_YS U (C t) := if_pos h
theorem sv_SO_2 {U : Nat → Bool} {C : Nat → Nat} {F G : Nat → Bool} {c : Nat} (h : c < 3) : sv_SO U C F G (3 + c) = sv_O (fun r => F r && (sv_YS U (C c)).testBit (r / 4)) (fun r => sv_YS U (r % 4)) 16 := by
  unfold sv_SO
  rw [if_neg (by omega), if_pos (by omega), Nat.add_sub_cancel_left]
theorem sv_SO_3 {U : Nat → Bool} {C : Nat → Nat} {F G : Nat → Bool} {c d : Nat} (h : c < 3) (hd : d < 3) : sv_SO U C F G (6 + 3 * c + d) =
    sv_O (fun r => G r && ((sv_YS U (C c)).testBit (r / 16) && (sv_YS U (C d)).testBit (r / 4 % 4))) (fun r => sv_YS U (r % 4)) 64 := by
  unfold sv_SO
  have e1 : (6 + 3 * c + d - 6) / 3 = c := by omega
  have e2 : (6 + 3 * c + d - 6) % 3 = d := by omega
  rw [if_neg (by omega), if_neg (by omega), e1, e2]
section
variable {rf oc kn ct : Int32} {rg : Int64} {ab cs vs tk sz od ow wh lf rt jo ta tb th cn al fo ts : Nat → Int32}
variable {post : Int32 → Prop} {U : Nat → Bool}
theorem sv_xtF {n x : Nat} (hn : n < 65536) (hx : x < 16) (K : post (nI (sv_O (fun s => x.testBit s) (sv_fm n) 4))) : wpX_targetsF post (nI n, rg, oc, kn, ct, ab, cs, vs, tk, sz, od, ow, wh, lf, rt, jo, ta, tb, th, cn, al, fo, ts) (nI x) := by
  have key : ∀ k s, s + k = 4 → wX_targetsF_4 post (nI x) (nI n) rg oc kn ct ab cs vs tk sz od ow wh lf rt jo ta tb th cn al fo ts (k + 1) (nI (sv_O (fun s => x.testBit s) (sv_fm n) s)) (nI s) := by
    intro k
    induction k with
    | zero =>
      intro s hs
      have e : s = 4 := by omega
      subst e
      exact br_t (Int32.le_refl _) K
    | succ k ih =>
      intro s hs
      have i' := ih (s + 1) (by omega)
      refine br_f (nI_ge (b := 4) (by omega) (by decide)) ?_
      cases hb : x.testBit s with
      | false =>
        refine br_t ((sv_tb0 (by omega) (by omega)).mpr hb) (nm_r (nI_1 s) ?_)
        rw [sv_O_f (p := fun s => x.testBit s) hb] at i'
        exact i'
      | true =>
        refine br_f (by rw [sv_tb0 (by omega) (by omega), hb]; decide) ?_
        rw [sv_fmI (by omega) (by omega), sv_or]
        refine nm_e (nm_r (nI_1 s) ?_)
        rw [sv_O_t (p := fun s => x.testBit s) hb] at i'
        exact i'
  exact ⟨5, key 4 0 rfl⟩
theorem sv_xup {x : Nat} (hA : ∀ a, a < 4 → ab a = nI (sv_YS U a)) (hx : x < 16) (K : post (nI (sv_O (fun s => x.testBit s) (sv_YS U) 4))) : wpX_upwards post (rf, rg, oc, kn, ct, ab, cs, vs, tk, sz, od, ow, wh, lf, rt, jo, ta, tb, th, cn, al, fo, ts) (nI x) := by
  have key : ∀ k s, s + k = 4 → wX_upwards_4 post (nI x) rf rg oc kn ct ab cs vs tk sz od ow wh lf rt jo ta tb th cn al fo ts (k + 1) (nI (sv_O (fun s => x.testBit s) (sv_YS U) s)) (nI s) := by
    intro k
    induction k with
    | zero =>
      intro s hs
      have e : s = 4 := by omega
      subst e
      exact br_t (Int32.le_refl _) K
    | succ k ih =>
      intro s hs
      have i' := ih (s + 1) (by omega)
      have e : ab (nI s).toNatClampNeg = nI (sv_YS U s) := by rw [nI_clamp (by omega)]; exact hA s (by omega)
      refine br_f (nI_ge (b := 4) (by omega) (by decide)) ?_
      cases hb : x.testBit s with
      | false =>
        refine br_t ((sv_tb0 (by omega) (by omega)).mpr hb) (nm_r (nI_1 s) ?_)
        rw [sv_O_f (p := fun s => x.testBit s) hb] at i'
        exact i'
      | true =>
        refine br_f (by rw [sv_tb0 (by omega) (by omega), hb]; decide) (And.intro (vp_in_nI (by omega) (by decide)) ?_)
        rw [e, sv_or]
        refine nm_e (nm_r (nI_1 s) ?_)
        rw [sv_O_t (p := fun s => x.testBit s) hb] at i'
        exact i'
  exact ⟨5, key 4 0 rfl⟩
theorem sv_xtG {n x y : Nat} (hn : n < 2 ^ 64) (hx : x < 16) (hy : y < 16) (K : post (nI (sv_O (fun i => x.testBit (i / 4) && y.testBit (i % 4)) (sv_fm n) 16))) : wpX_targetsG post (rf, lN n, oc, kn, ct, ab, cs, vs, tk, sz, od, ow, wh, lf, rt, jo, ta, tb, th, cn, al, fo, ts) (nI x) (nI y) := by
  have key : ∀ k s, s + k = 16 → wX_targetsG_5 post (nI x) (nI y) rf (lN n) oc kn ct ab cs vs tk sz od ow wh lf rt jo ta tb th cn al fo ts (k + 1) (nI (sv_O (fun i => x.testBit (i / 4) && y.testBit (i % 4)) (sv_fm n) s)) (nI s) := by
    intro k
    induction k with
    | zero =>
      intro s hs
      have e : s = 16 := by omega
      subst e
      exact br_t (Int32.le_refl _) K
    | succ k ih =>
      intro s hs
      have i' := ih (s + 1) (by omega)
      have e2 : nI s >>> ((2 : Int32) &&& 31) = nI (s / 4) := sv_shr (k := 2) (by omega) (by omega)
      have e3 : nI s &&& 3 = nI (s % 4) := pk_andN (by omega) (m := 3) 2 (by decide)
      refine br_f (nI_ge (b := 16) (by omega) (by decide)) ?_
      rw [e2, e3]
      cases hb : x.testBit (s / 4) with
      | false =>
        refine br_t ((sv_tb0 (by omega) (by omega)).mpr hb) (nm_r (nI_1 s) ?_)
        rw [sv_O_f (by rw [hb]; rfl)] at i'
        exact i'
      | true =>
        refine br_f (by rw [sv_tb0 (by omega) (by omega), hb]; decide) ?_
        cases hb2 : y.testBit (s % 4) with
        | false =>
          refine br_t ((sv_tb0 (by omega) (by omega)).mpr hb2) (nm_r (nI_1 s) ?_)
          rw [sv_O_f (by rw [hb, hb2]; rfl)] at i'
          exact i'
        | true =>
          refine br_f (by rw [sv_tb0 (by omega) (by omega), hb2]; decide) ?_
          rw [sv_fmL hn (by omega), sv_or]
          refine nm_e (nm_r (nI_1 s) ?_)
          rw [sv_O_t (by rw [hb, hb2]; rfl)] at i'
          exact i'
  exact ⟨17, key 16 0 rfl⟩
end
section
variable {rf oc kn ct : Int32} {rg : Int64} {ab cs vs tk sz od ow wh lf rt jo ta tb th cn al fo ts : Nat → Int32}
variable {post : SX → Prop} {U F G : Nat → Bool} {C : Nat → Nat}
theorem sv_xT62 {RF RG c : Nat} {J32 : Int32 → (Nat → Int32) → (Nat → Int32) → (Nat → Int32) → (Nat → Int32) → (Nat → Int32) → (Nat → Int32) → (Nat → Int32) → (Nat → Int32) → (Nat → Int32) → (Nat → Int32) → (Nat → Int32) → (Nat → Int32) → (Nat → Int32) → (Nat → Int32) → (Nat → Int32) → (Nat → Int32) → (Nat → Int32) → (Nat → Int32) → Prop}
    (hRG : RG < 2 ^ 64) (hG : ∀ i, i < 64 → RG.testBit i = G i) (hA : ∀ a, a < 4 → ab a = nI (sv_YS U a)) (hC : ∀ j, C j < 4) (hc : c < 3)
    (K : ∀ ts', (∀ t, t < 15 → (t < 4 + c ∨ (6 ≤ t ∧ t < 6 + 3 * (c + 1))) → ts' t = nI (sv_SO U C F G t)) → J32 (nI (c + 1)) ab cs vs tk sz od ow wh lf rt jo ta tb th cn al fo ts') :
    ∀ k d ts, d + k = 3 → (∀ t, t < 15 → (t < 4 + c ∨ (6 ≤ t ∧ t < 6 + 3 * c + d)) → ts t = nI (sv_SO U C F G t)) →
      wX_sortThings_62 post J32 (nI c) rf (lN RG) oc kn ct (k + 1) (nI d) ab cs vs tk sz od ow wh lf rt jo ta tb th cn al fo ts := by
  intro k
  induction k with
  | zero =>
    intro d ts hd h
    have e : d = 3 := by omega
    subst e
    exact br_t (Int32.le_refl _) (nm_r (nI_1 c) (K ts (fun t ht hh => h t ht (by omega))))
  | succ k ih =>
    intro d ts hd h
    have ec : ts (nI c).toNatClampNeg = nI (sv_YS U (C c)) := by rw [nI_clamp (by omega), h c (by omega) (by omega), sv_SO_1 hc]
    have ed : ts (nI d).toNatClampNeg = nI (sv_YS U (C d)) := by rw [nI_clamp (by omega), h d (by omega) (by omega), sv_SO_1 (by omega)]
    refine br_f (nI_ge (b := 3) (by omega) (by decide)) (And.intro (vp_in_nI (by omega) (by decide)) (And.intro (vp_in_nI (by omega) (by decide)) ?_))
    rw [ec, ed]
    refine sv_xtG hRG (sv_YS_lt (hC _)) (sv_YS_lt (hC _)) ?_
    refine sv_xup hA (sv_O_lt (k := 4) (sv_fm_lt RG) 16) ?_
    rw [sv_SOG (G := G) (fun s t hs ht => by rw [sv_fm_b ht, hG _ (by omega)])]
    rw [← sv_SO_3 (F := F) hc (show d < 3 by omega)]
    have e6 : (6 + 3 * nI c) + nI d = nI (6 + 3 * c + d) := by
      have e1 : 3 * nI c = nI (3 * c) := pk_mul 3 c
      have e2 : 6 + nI (3 * c) = nI (6 + 3 * c) := nI_add 6 _
      rw [e1, e2, nI_add]
    rw [e6]
    have lt := sv_SO_lt (U := U) (F := F) (G := G) hC (6 + 3 * c + d)
    refine And.intro (vp_in_nI (by omega) (by decide)) (nm_e (nm_r (nI_1 d) ?_))
    rw [sv_n2 (by omega), nI_clamp (by omega)]
    refine ih (d + 1) _ (by omega) ?_
    intro t ht hh
    by_cases e : t = 6 + 3 * c + d
    · rw [e, pk_us]
    · rw [pk_un e]
      exact h t ht (by omega)
theorem sv_xT32 {RF RG : Nat} (hRF : RF < 65536) (hRG : RG < 2 ^ 64) (hF : ∀ i, i < 16 → RF.testBit i = F i) (hG : ∀ i, i < 64 → RG.testBit i = G i) (hA : ∀ a, a < 4 → ab a = nI (sv_YS U a)) (hC : ∀ j, C j < 4)
    (K : ∀ ts', (∀ t, t < 15 → ts' t = nI (sv_SO U C F G t)) → post (nI RF, lN RG, oc, kn, ct, ab, cs, vs, tk, sz, od, ow, wh, lf, rt, jo, ta, tb, th, cn, al, fo, ts')) :
    ∀ k c ts, c + k = 3 → (∀ t, t < 15 → (t < 3 + c ∨ (6 ≤ t ∧ t < 6 + 3 * c)) → ts t = nI (sv_SO U C F G t)) →
      wX_sortThings_32 post (nI RF) (lN RG) oc kn ct (k + 1) (nI c) ab cs vs tk sz od ow wh lf rt jo ta tb th cn al fo ts := by
  intro k
  induction k with
  | zero =>
    intro c ts hc h
    have e : c = 3 := by omega
    subst e
    exact br_t (Int32.le_refl _) (K ts (fun t ht => h t ht (by omega)))
  | succ k ih =>
    intro c ts hc h
    have ec : ts (nI c).toNatClampNeg = nI (sv_YS U (C c)) := by rw [nI_clamp (by omega), h c (by omega) (by omega), sv_SO_1 (by omega)]
    refine br_f (nI_ge (b := 3) (by omega) (by decide)) (And.intro (vp_in_nI (by omega) (by decide)) ?_)
    rw [ec]
    refine sv_xtF hRF (sv_YS_lt (hC _)) ?_
    refine sv_xup hA (sv_O_lt (k := 4) (sv_fm_lt RF) 4) ?_
    rw [sv_SOF (F := F) (fun s t hs ht => by rw [sv_fm_b ht, hF _ (by omega)])]
    rw [← sv_SO_2 (G := G) (show c < 3 by omega)]
    have e3 : 3 + nI c = nI (3 + c) := nI_add 3 c
    rw [e3]
    have lt := sv_SO_lt (U := U) (F := F) (G := G) hC (3 + c)
    refine And.intro (vp_in_nI (by omega) (by decide)) (nm_e ?_)
    rw [sv_n2 (by omega), nI_clamp (by omega)]
    refine ⟨4, sv_xT62 (RF := RF) hRG hG hA hC (by omega) (fun ts' h' => ih (c + 1) ts' (by omega) (fun t ht hh => h' t ht (by omega))) 3 0 _ rfl ?_⟩
    intro t ht hh
    by_cases e : t = 3 + c
    · rw [e, pk_us]
    · rw [pk_un e]
      exact h t ht (by omega)
theorem sv_xT {RF RG : Nat} (hRF : RF < 65536) (hRG : RG < 2 ^ 64) (hF : ∀ i, i < 16 → RF.testBit i = F i) (hG : ∀ i, i < 64 → RG.testBit i = G i) (hA : ∀ a, a < 4 → ab a = nI (sv_YS U a)) (hC : ∀ j, C j < 4)
    (K : ∀ ts', (∀ t, t < 15 → ts' t = nI (sv_SO U C F G t)) → post (nI RF, lN RG, oc, kn, ct, ab, sv_nF C, vs, tk, sz, od, ow, wh, lf, rt, jo, ta, tb, th, cn, al, fo, ts')) : wpX_sortThings post (nI RF, lN RG, oc, kn, ct, ab, sv_nF C, vs, tk, sz, od, ow, wh, lf, rt, jo, ta, tb, th, cn, al, fo, ts) := by
  have key : ∀ k c ts, c + k = 3 → (∀ t, t < c → ts t = nI (sv_SO U C F G t)) → wX_sortThings_2 post (nI RF) (lN RG) oc kn ct (k + 1) (nI c) ab (sv_nF C) vs tk sz od ow wh lf rt jo ta tb th cn al fo ts := by
    intro k
    induction k with
    | zero =>
      intro c ts hc h
      have e : c = 3 := by omega
      subst e
      exact br_t (Int32.le_refl _) ⟨4, sv_xT32 hRF hRG hF hG hA hC K 3 0 ts rfl (fun t ht hh => h t (by omega))⟩
    | succ k ih =>
      intro c ts hc h
      have eC : sv_nF C (nI c).toNatClampNeg = nI (C c) := by rw [nI_clamp (by omega)]; rfl
      have c4 := hC c
      have eA : ab (nI (C c)).toNatClampNeg = nI (sv_SO U C F G c) := by rw [nI_clamp (by omega), sv_SO_1 (by omega)]; exact hA _ c4
      have lt := sv_SO_lt (U := U) (F := F) (G := G) hC c
      refine br_f (nI_ge (b := 3) (by omega) (by decide)) (And.intro (vp_in_nI (by omega) (by decide)) ?_)
      rw [eC]
      refine And.intro (vp_in_nI c4 (by decide)) (And.intro (vp_in_nI (by omega) (by decide)) ?_)
      rw [eA, sv_n1 (by omega)]
      refine nm_e (nm_r (nI_1 c) ?_)
      refine ih (c + 1) _ (by omega) ?_
      intro t ht
      rw [nI_clamp (by omega)]
      by_cases e : t = c
      · rw [e, pk_us]
      · rw [pk_un e]
        exact h t (by omega)
  exact ⟨4, key 3 0 ts rfl (fun t ht => by omega)⟩
end
end
section
/-! reading a side: the stack of places that still want parts -/
def sv_ek (T : Nat → Nat) (B k R e w : Nat) : Prop := e < k ∧ ((R = 0 ∧ w = sv_ar (T (B + e)) ∧ 0 < w ∧ k = e + 1) ∨
  (T (B + e) = 1 ∧ w = 1 ∧ sv_pn T (B + e + 1) (k - e - 1) = R ∧ ∀ m, m < k - e - 1 → 0 < sv_pn T (B + e + 1) m))
def sv_sk (T : Nat → Nat) (B k : Nat) : List (Nat × Nat) → Nat → Prop
  | [], _ => True
  | p :: r, R => sv_ek T B k R p.1 p.2 ∧ sv_sk T B k r (R + p.2)
def sv_sm : List (Nat × Nat) → Nat
  | [] => 0
  | p :: r => p.2 + sv_sm r
def sv_sr (B : Nat) (od ow : Nat → Int32) : List (Nat × Nat) → Prop
  | [] => True
  | p :: r => od r.length = nI (B + p.1) ∧ ow r.length = nI p.2 ∧ sv_sr B od ow r
theorem sv_sr_u {B : Nat} {od ow od' ow' : Nat → Int32} : ∀ {l : List (Nat × Nat)}, sv_sr B od ow l → (∀ j, j < l.length → od' j = od j ∧ ow' j = ow j) → sv_sr B od' ow' l
  | [], _, _ => trivial
  | p :: r, h, hj => by
    have h0 := hj r.length (by rw [List.length_cons]; omega)
    exact ⟨by rw [h0.1]; exact h.1, by rw [h0.2]; exact h.2.1, sv_sr_u h.2.2 fun j hj' => hj j (by rw [List.length_cons]; omega)⟩
theorem sv_sk_s {T : Nat → Nat} {B k : Nat} : ∀ {r : List (Nat × Nat)} {R : Nat}, sv_sk T B k r R → 1 ≤ R → sv_sk T B (k + 1) r (R + sv_ar (T (B + k)) - 1)
  | [], _, _, _ => trivial
  | p :: r, R, h, hR => by
    obtain ⟨⟨he, h1⟩, h2⟩ := h
    have n2 := sv_sk_s h2 (by omega)
    refine ⟨⟨by omega, Or.inr ?_⟩, ?_⟩
    · rcases h1 with ⟨z, _⟩ | ⟨a, b, c, d⟩
      · omega
      · have e1 : k + 1 - p.1 - 1 = (k - p.1 - 1) + 1 := by omega
        have e2 : B + p.1 + 1 + (k - p.1 - 1) = B + k := by omega
        refine ⟨a, b, ?_, ?_⟩
        · rw [e1, sv_pn_s, c, e2]
        · intro m hm
          rcases Nat.lt_or_ge m (k - p.1 - 1) with z | z
          · exact d m z
          · have e : m = k - p.1 - 1 := by omega
            rw [e, c]
            omega
    · have e : R + p.2 + sv_ar (T (B + k)) - 1 = R + sv_ar (T (B + k)) - 1 + p.2 := by omega
      rw [e] at n2
      exact n2
def sv_md (e w : Nat) (r : List (Nat × Nat)) : List (Nat × Nat) := if w = 1 then r else (e, w - 1) :: r
def sv_nw (k t : Nat) (r : List (Nat × Nat)) : List (Nat × Nat) := if 0 < sv_ar t then (k, sv_ar t) :: r else r
def sv_dd (T : Nat → Nat) (B k : Nat) (stk : List (Nat × Nat)) (lf rt : Nat → Int32) : Prop := ∀ e, e < k → T (B + e) < 2 →
  (k = e + 1 ∧ ∃ r, stk = (e, sv_ar (T (B + e))) :: r) ∨
  (lf (B + e) = nI (B + e + 1) ∧ (T (B + e) = 1 → (e, 1) ∈ stk ∨ ∃ n, sv_Tm T (B + e + 1) n ∧ rt (B + e) = nI (B + e + 1 + n)))
def sv_RI (T : Nat → Nat) (B k : Nat) (stk : List (Nat × Nat)) (lf rt : Nat → Int32) : Prop :=
  stk.length ≤ k ∧ sv_sk T B k stk 0 ∧ (1 ≤ k → sv_sm stk = sv_pn T B k) ∧ sv_dd T B k stk lf rt ∧ (k = 0 → stk = [])
theorem sv_nw_len (k t : Nat) (r : List (Nat × Nat)) : (sv_nw k t r).length ≤ r.length + 1 := by
  unfold sv_nw
  split
  · exact Nat.le_refl _
  · omega
theorem sv_nw_m {k t : Nat} {r : List (Nat × Nat)} {p : Nat × Nat} (h : p ∈ r) : p ∈ sv_nw k t r := by
  unfold sv_nw
  split
  · exact List.mem_cons_of_mem _ h
  · exact h
theorem sv_nw_sm (k t : Nat) (r : List (Nat × Nat)) : sv_sm (sv_nw k t r) = sv_sm r + sv_ar t := by
  unfold sv_nw
  split
  · show sv_ar t + sv_sm r = _
    omega
  · omega
/-- the new top, over a middle stack whose entries are right for k + 1 with the new wants above them -/
theorem sv_nw_sk {T : Nat → Nat} {B k : Nat} {r : List (Nat × Nat)} (h : sv_sk T B (k + 1) r (sv_ar (T (B + k)))) : sv_sk T B (k + 1) (sv_nw k (T (B + k)) r) 0 := by
  unfold sv_nw
  split
  · rename_i hp
    refine ⟨⟨by omega, Or.inl ⟨rfl, rfl, hp, rfl⟩⟩, ?_⟩
    rw [Nat.zero_add]
    exact h
  · have e : sv_ar (T (B + k)) = 0 := by omega
    rw [e] at h
    exact h
theorem sv_ar_p {t : Nat} : 0 < sv_ar t ↔ t < 2 := by
  constructor
  · intro h
    rcases Nat.lt_or_ge t 2 with z | z
    · exact z
    · rw [sv_ar2 z] at h
      omega
  · intro h
    rcases Nat.eq_zero_or_pos t with z | z
    · rw [z]; decide
    · have e : t = 1 := by omega
      rw [e]; decide
theorem sv_RI_0 {T : Nat → Nat} {B : Nat} {lf rt : Nat → Int32} : sv_RI T B 0 [] lf rt := ⟨Nat.le_refl _, trivial, fun h => by omega, fun e he => by omega, fun _ => rfl⟩
theorem sv_RI_1 {T : Nat → Nat} {B : Nat} {lf rt : Nat → Int32} : sv_RI T B 1 (sv_nw 0 (T (B + 0)) []) lf rt := by
  refine ⟨sv_nw_len _ _ _, sv_nw_sk trivial, fun _ => ?_, ?_, fun h => by omega⟩
  · rw [sv_nw_sm]
    show 0 + sv_ar (T (B + 0)) = 1 + sv_ar (T (B + 0)) - 1
    omega
  · intro e he ht
    have e0 : e = 0 := by omega
    subst e0
    refine Or.inl ⟨rfl, [], ?_⟩
    unfold sv_nw
    rw [if_pos (sv_ar_p.mpr ht)]
theorem sv_RI_mid {T : Nat → Nat} {B k e w : Nat} {r : List (Nat × Nat)} {lf rt : Nat → Int32} (h : sv_RI T B k ((e, w) :: r) lf rt) :
    (w = 1 ∨ w = 2) ∧ sv_sk T B (k + 1) (sv_md e w r) (sv_ar (T (B + k))) ∧ sv_sm (sv_md e w r) + 1 = sv_pn T B k ∧ (sv_md e w r).length ≤ k ∧ 1 ≤ k ∧ (w = 2 → k = e + 1) ∧
    (k ≠ e + 1 → T (B + e) = 1 ∧ w = 1 ∧ sv_Tm T (B + e + 1) (k - e - 1)) ∧ e < k ∧ (k = e + 1 → w = sv_ar (T (B + e))) := by
  obtain ⟨hl, ⟨⟨he, h1⟩, h2⟩, hs, hd, h0⟩ := h
  have he' : e < k := he
  have hs' : w + sv_sm r = sv_pn T B k := hs (by omega)
  have hl' : r.length + 1 ≤ k := hl
  have h2' : sv_sk T B k r (0 + w) := h2
  rw [Nat.zero_add] at h2'
  have a2 := sv_ar_le (T (B + e))
  have hw : w = 1 ∨ w = 2 := by
    rcases h1 with ⟨_, z1, z2, _⟩ | ⟨_, z, _⟩
    · have z1' : w = sv_ar (T (B + e)) := z1
      have z2' : 0 < w := z2
      omega
    · exact Or.inl z
  have n2 := sv_sk_s h2' (by omega)
  refine ⟨hw, ?_, ?_, ?_, by omega, ?_, ?_, he', ?_⟩
  · rcases hw with z | z
    · subst z
      have e1 : 1 + sv_ar (T (B + k)) - 1 = sv_ar (T (B + k)) := by omega
      rw [e1] at n2
      exact n2
    · subst z
      show sv_sk T B (k + 1) ((e, 1) :: r) (sv_ar (T (B + k)))
      rcases h1 with ⟨_, z1, z2, z3⟩ | ⟨_, z, _⟩
      · have z1' : 2 = sv_ar (T (B + e)) := z1
        have z3' : k = e + 1 := z3
        have t1 : T (B + e) = 1 := by
          have : T (B + e) < 2 := sv_ar_p.mp (by omega)
          rcases Nat.eq_zero_or_pos (T (B + e)) with y | y
          · rw [y] at z1'
            exact absurd z1' (by decide)
          · omega
        have ek1 : k + 1 - e - 1 = 1 := by omega
        have ek2 : B + e + 1 = B + k := by omega
        refine ⟨⟨by show e < k + 1; omega, Or.inr ⟨t1, rfl, ?_, ?_⟩⟩, ?_⟩
        · show sv_pn T (B + e + 1) (k + 1 - e - 1) = sv_ar (T (B + k))
          rw [ek1, ek2]
          show 1 + sv_ar (T (B + k + 0)) - 1 = sv_ar (T (B + k))
          rw [Nat.add_zero]
          omega
        · intro m hm
          have hm' : m < k + 1 - e - 1 := hm
          have e0 : m = 0 := by omega
          rw [e0, sv_pn_0]
          omega
        · have e1 : 2 + sv_ar (T (B + k)) - 1 = sv_ar (T (B + k)) + 1 := by omega
          rw [e1] at n2
          exact n2
      · have z' : 2 = 1 := z
        omega
  · unfold sv_md
    rcases hw with z | z
    · rw [if_pos z]; omega
    · rw [if_neg (by omega)]
      show w - 1 + sv_sm r + 1 = _
      omega
  · unfold sv_md
    split
    · omega
    · exact hl'
  · intro z
    rcases h1 with ⟨_, _, _, z3⟩ | ⟨_, y, _⟩
    · exact z3
    · have y' : w = 1 := y
      omega
  · intro z
    rcases h1 with ⟨_, _, _, z3⟩ | ⟨y1, y2, y3, y4⟩
    · exact absurd z3 z
    · exact ⟨y1, y2, y3, y4⟩
  · intro z
    rcases h1 with ⟨_, z1, _, _⟩ | ⟨y1, y2, y3, y4⟩
    · exact z1
    · exfalso
      have y3' : sv_pn T (B + e + 1) (k - e - 1) = 0 := y3
      have e0 : k - e - 1 = 0 := by omega
      rw [e0, sv_pn_0] at y3'
      omega
theorem sv_RI_L {T : Nat → Nat} {B k e w : Nat} {r : List (Nat × Nat)} {lf rt : Nat → Int32} (h : sv_RI T B k ((e, w) :: r) lf rt) (hk : k = e + 1) :
    sv_RI T B (k + 1) (sv_nw k (T (B + k)) (sv_md e w r)) (upd lf (B + e) (nI (B + k))) rt := by
  obtain ⟨hw, m1, m2, m3, m4, m5, m6, m7, m8⟩ := sv_RI_mid h
  obtain ⟨hl, _, _, hd, _⟩ := h
  refine ⟨Nat.le_trans (sv_nw_len _ _ _) (by omega), sv_nw_sk m1, fun _ => ?_, ?_, fun z => by omega⟩
  · rw [sv_nw_sm, sv_pn_s]
    omega
  · intro i hi ht
    by_cases e1 : i = k
    · subst e1
      refine Or.inl ⟨rfl, sv_md e w r, ?_⟩
      unfold sv_nw
      rw [if_pos (sv_ar_p.mpr ht)]
    · refine Or.inr ?_
      by_cases e2 : i = e
      · subst e2
        refine ⟨?_, fun t1 => Or.inl (sv_nw_m ?_)⟩
        · rw [pk_us]
          exact congrArg nI (by omega)
        · have w2 : w = 2 := by rw [m8 hk, t1]; rfl
          unfold sv_md
          rw [if_neg (by omega), w2]
          exact List.mem_cons_self
      · rcases hd i (by omega) ht with ⟨z, _⟩ | ⟨z1, z2⟩
        · omega
        · refine ⟨?_, fun t1 => ?_⟩
          · rw [pk_un (by omega)]
            exact z1
          · rcases z2 t1 with y | y
            · rcases List.mem_cons.mp y with x | x
              · have := (Prod.mk.inj x).1
                omega
              · refine Or.inl (sv_nw_m ?_)
                unfold sv_md
                split
                · exact x
                · exact List.mem_cons_of_mem _ x
            · exact Or.inr y
theorem sv_RI_R {T : Nat → Nat} {B k e w : Nat} {r : List (Nat × Nat)} {lf rt : Nat → Int32} (h : sv_RI T B k ((e, w) :: r) lf rt) (hk : k ≠ e + 1) :
    sv_RI T B (k + 1) (sv_nw k (T (B + k)) (sv_md e w r)) lf (upd rt (B + e) (nI (B + k))) := by
  obtain ⟨hw, m1, m2, m3, m4, m5, m6, m7, m8⟩ := sv_RI_mid h
  obtain ⟨t1, w1, tm⟩ := m6 hk
  obtain ⟨hl, _, _, hd, _⟩ := h
  refine ⟨Nat.le_trans (sv_nw_len _ _ _) (by omega), sv_nw_sk m1, fun _ => ?_, ?_, fun z => by omega⟩
  · rw [sv_nw_sm, sv_pn_s]
    omega
  · intro i hi ht
    by_cases e1 : i = k
    · subst e1
      refine Or.inl ⟨rfl, sv_md e w r, ?_⟩
      unfold sv_nw
      rw [if_pos (sv_ar_p.mpr ht)]
    · refine Or.inr ?_
      rcases hd i (by omega) ht with ⟨z, r', z'⟩ | ⟨z1, z2⟩
      · have := (Prod.mk.inj (List.cons.inj z').1).1
        omega
      · refine ⟨z1, fun ti => ?_⟩
        by_cases e2 : i = e
        · subst e2
          refine Or.inr ⟨_, tm, ?_⟩
          rw [pk_us]
          exact congrArg nI (by omega)
        · rw [pk_un (by omega)]
          rcases z2 ti with y | y
          · rcases List.mem_cons.mp y with x | x
            · have := (Prod.mk.inj x).1
              omega
            · refine Or.inl (sv_nw_m ?_)
              unfold sv_md
              rw [if_pos w1]
              exact x
          · exact Or.inr y
section
variable {rf oc kn ct : Int32} {rg : Int64} {ab cs vs tk sz od ow wh lf rt jo ta tb th cn al fo ts : Nat → Int32}
theorem sv_xw {post : Int32 → Prop} {t : Nat} (ht : t < 8) (K : post (nI (sv_ar t))) : wpX_wants post (nI t) := by
  refine pk_eq t 0 (fun e => ?_) (fun e => pk_eq t 1 (fun e1 => ?_) (fun e1 => ?_))
  · rw [e] at K
    exact K
  · rw [e1] at K
    exact K
  · rw [sv_ar2 (by omega)] at K
    exact K
theorem sv_xa40 {post : SX → Prop} {B e w : Nat} {r : List (Nat × Nat)} (hw : w = 1 ∨ w = 2) (hl : r.length < 10) (hr : sv_sr B od ow ((e, w) :: r))
    (K : ∀ ow', sv_sr B od ow' (sv_md e w r) → post (rf, rg, nI (sv_md e w r).length, kn, ct, ab, cs, vs, tk, sz, od, ow', wh, lf, rt, jo, ta, tb, th, cn, al, fo, ts)) : wX_attach_40 post (nI r.length) rf rg (nI (r.length + 1)) kn ct ab cs vs tk sz od ow wh lf rt jo ta tb th cn al fo ts := by
  have e1 : ow (nI r.length).toNatClampNeg = nI w := by rw [nI_clamp (by omega)]; exact hr.2.1
  have e2 : nI w - 1 = nI (w - 1) := pk_sub (b := 1) (by omega)
  have hi : vp_in (nI r.length) 10 := vp_in_nI hl (by decide)
  refine And.intro hi (And.intro hi ?_)
  rw [e1, e2, sv_n2 (by omega), nI_clamp (by omega)]
  refine nm_e (And.intro hi ?_)
  rw [pk_us]
  have k1 := K (upd ow r.length (nI (w - 1)))
  rcases hw with z | z
  · subst z
    have e3 : nI (r.length + 1) - 1 = nI r.length := pk_sub (b := 1) (by omega)
    refine br_t rfl ?_
    have q : sv_md e 1 r = r := if_pos rfl
    rw [q] at k1
    rw [e3]
    exact nm_e (k1 (sv_sr_u hr.2.2 fun j hj => ⟨rfl, pk_un (by omega)⟩))
  · subst z
    refine br_f (by decide) ?_
    exact k1 ⟨hr.1, pk_us, sv_sr_u hr.2.2 fun j hj => ⟨rfl, pk_un (by omega)⟩⟩
theorem sv_xatL {post : SX → Prop} {B k e w : Nat} {r : List (Nat × Nat)} (hB : B ≤ 9) (hk9 : k < 9) (hk : k = e + 1) (hw : w = 1 ∨ w = 2) (hl : r.length < 10) (hr : sv_sr B od ow ((e, w) :: r))
    (K : ∀ ow', sv_sr B od ow' (sv_md e w r) → post (rf, rg, nI (sv_md e w r).length, kn, ct, ab, cs, vs, tk, sz, od, ow', wh, upd lf (B + e) (nI (B + k)), rt, jo, ta, tb, th, cn, al, fo, ts)) : wpX_attach post (rf, rg, nI (r.length + 1), kn, ct, ab, cs, vs, tk, sz, od, ow, wh, lf, rt, jo, ta, tb, th, cn, al, fo, ts) (nI (B + k)) := by
  have e0 : nI (r.length + 1) - 1 = nI r.length := pk_sub (b := 1) (by omega)
  have e1 : od (nI r.length).toNatClampNeg = nI (B + e) := by rw [nI_clamp (by omega)]; exact hr.1
  refine nm_r e0 (And.intro (vp_in_nI hl (by decide)) (nm_r e1 ?_))
  rw [nI_1]
  refine br_t (congrArg nI (by omega)) (And.intro (vp_in_nI (by omega) (by decide)) ?_)
  rw [sv_n2 (by omega), nI_clamp (by omega)]
  exact nm_e (sv_xa40 hw hl hr K)
theorem sv_xatR {post : SX → Prop} {B k e w : Nat} {r : List (Nat × Nat)} (hB : B ≤ 9) (hk9 : k < 9) (he : e < k) (hk : k ≠ e + 1) (hw : w = 1 ∨ w = 2) (hl : r.length < 10) (hr : sv_sr B od ow ((e, w) :: r))
    (K : ∀ ow', sv_sr B od ow' (sv_md e w r) → post (rf, rg, nI (sv_md e w r).length, kn, ct, ab, cs, vs, tk, sz, od, ow', wh, lf, upd rt (B + e) (nI (B + k)), jo, ta, tb, th, cn, al, fo, ts)) : wpX_attach post (rf, rg, nI (r.length + 1), kn, ct, ab, cs, vs, tk, sz, od, ow, wh, lf, rt, jo, ta, tb, th, cn, al, fo, ts) (nI (B + k)) := by
  have e0 : nI (r.length + 1) - 1 = nI r.length := pk_sub (b := 1) (by omega)
  have e1 : od (nI r.length).toNatClampNeg = nI (B + e) := by rw [nI_clamp (by omega)]; exact hr.1
  refine nm_r e0 (And.intro (vp_in_nI hl (by decide)) (nm_r e1 ?_))
  rw [nI_1]
  refine br_f (by rw [nI_eq (by omega) (by omega)]; omega) (And.intro (vp_in_nI (by omega) (by decide)) ?_)
  rw [sv_n2 (by omega), nI_clamp (by omega)]
  exact nm_e (sv_xa40 hw hl hr K)
theorem sv_xr60 {post : SX → Prop} {J7 : Int32 → Int32 → Int64 → Int32 → Int32 → Int32 → (Nat → Int32) → (Nat → Int32) → (Nat → Int32) → (Nat → Int32) → (Nat → Int32) → (Nat → Int32) → (Nat → Int32) → (Nat → Int32) → (Nat → Int32) → (Nat → Int32) → (Nat → Int32) → (Nat → Int32) → (Nat → Int32) → (Nat → Int32) → (Nat → Int32) → (Nat → Int32) → (Nat → Int32) → (Nat → Int32) → Prop}
    {B k t : Nat} {x1 : Int32} {r : List (Nat × Nat)} (hB : B ≤ 9) (hk9 : k < 9) (ht : t < 8) (hl : r.length < 10) (hr : sv_sr B od ow r)
    (K : ∀ od' ow', sv_sr B od' ow' (sv_nw k t r) → J7 (nI (k + 1)) rf rg (nI (sv_nw k t r).length) kn ct ab cs vs tk sz od' ow' wh lf rt jo ta tb th cn al fo ts) : wX_read_60 post J7 x1 (nI k) (nI (B + k)) (nI t) rf rg (nI r.length) kn ct ab cs vs tk sz od ow wh lf rt jo ta tb th cn al fo ts := by
  refine sv_xw ht ?_
  have a2 := sv_ar_le t
  unfold sv_nw at K
  by_cases z : 0 < sv_ar t
  · rw [if_pos z] at K
    refine br_f (nI_nle z (by omega)) (And.intro (vp_in_nI hl (by decide)) ?_)
    rw [sv_n2 (by omega), nI_clamp (by omega)]
    refine nm_e ?_
    refine sv_xw ht ?_
    refine And.intro (vp_in_nI hl (by decide)) ?_
    rw [sv_n2 (by omega)]
    refine nm_e (nm_r (nI_1 _) (nm_r (nI_1 k) ?_))
    exact K _ _ ⟨pk_us, pk_us, sv_sr_u hr fun j hj => ⟨pk_un (by omega), pk_un (by omega)⟩⟩
  · rw [if_neg z] at K
    have e : sv_ar t = 0 := by omega
    rw [e]
    exact br_t (Int32.le_refl _) (nm_r (nI_1 k) (K od ow hr))
end
def sv_RD (T : Nat → Nat) (B n : Nat) (wh0 jo0 lf0 rt0 wh jo lf rt : Nat → Int32) : Prop :=
  (∀ j, j < n → wh (B + j) = nI (T (B + j)) ∧ jo (B + j) = -1) ∧ (∀ j, j < B ∨ B + n ≤ j → wh j = wh0 j ∧ jo j = jo0 j ∧ lf j = lf0 j ∧ rt j = rt0 j)
section
variable {rf oc kn ct : Int32} {rg : Int64} {ab cs vs tk sz od ow wh lf rt jo ta tb th cn al fo ts : Nat → Int32}
variable {T S : Nat → Nat}
theorem sv_xr7 {post : SX → Prop} {b : Nat} {wh0 jo0 lf0 rt0 : Nat → Int32} (hb : b < 2) (hS : ∀ j, S j ≤ 9) (hT : ∀ j, T j < 8) (hp : ∀ m, m < S b → 0 < sv_pn T (9 * b) m)
    (K : ∀ stk od' ow' wh' lf' rt' jo', sv_RI T (9 * b) (S b) stk lf' rt' → sv_RD T (9 * b) (S b) wh0 jo0 lf0 rt0 wh' jo' lf' rt' →
      post (rf, rg, nI stk.length, kn, ct, ab, cs, vs, sv_nF T, sv_nF S, od', ow', wh', lf', rt', jo', ta, tb, th, cn, al, fo, ts)) :
    ∀ n k stk od ow wh lf rt jo, k + n = S b → sv_RI T (9 * b) k stk lf rt → sv_sr (9 * b) od ow stk → sv_RD T (9 * b) k wh0 jo0 lf0 rt0 wh jo lf rt →
      wX_read_7 post (nI b) (n + 1) (nI k) rf rg (nI (List.length stk)) kn ct ab cs vs (sv_nF T) (sv_nF S) od ow wh lf rt jo ta tb th cn al fo ts := by
  have s9 := hS b
  have eS : sv_nF S (nI b).toNatClampNeg = nI (S b) := by rw [nI_clamp (by omega)]; rfl
  intro n
  induction n with
  | zero =>
    intro k stk od ow wh lf rt jo hk hI hr hD
    have e : k = S b := by omega
    subst e
    exact And.intro (vp_in_nI hb (by decide)) (br_t (by rw [eS]; exact Int32.le_refl _) (K stk od ow wh lf rt jo hI hD))
  | succ n ih =>
    intro k stk od ow wh lf rt jo hk hI hr hD
    have t8 := hT (9 * b + k)
    have e9 : nI b * 9 + nI k = nI (9 * b + k) := by
      have : nI b * 9 = nI (b * 9) := pk_mul b 9
      rw [this, nI_add, Nat.mul_comm]
    have eT : sv_nF T (nI (9 * b + k)).toNatClampNeg = nI (T (9 * b + k)) := by rw [nI_clamp (by omega)]; rfl
    have hi : vp_in (nI (9 * b + k)) 21 := vp_in_nI (by omega) (by decide)
    have pk := hp k (by omega)
    -- the new what and joined
    have nD : ∀ lf' rt' : Nat → Int32, (∀ j, j < 9 * b ∨ 9 * b + (k + 1) ≤ j → lf' j = lf j ∧ rt' j = rt j) → sv_RD T (9 * b) (k + 1) wh0 jo0 lf0 rt0 (upd wh (9 * b + k) (nI (T (9 * b + k)))) (upd jo (9 * b + k) (-1)) lf' rt' := by
      intro lf' rt' hlr
      refine ⟨fun j hj => ?_, fun j hj => ?_⟩
      · by_cases e : j = k
        · subst e
          exact ⟨pk_us, pk_us⟩
        · rw [pk_un (by omega), pk_un (by omega)]
          exact hD.1 j (by omega)
      · obtain ⟨q1, q2⟩ := hlr j hj
        rw [pk_un (by omega), pk_un (by omega), q1, q2]
        exact hD.2 j (by omega)
    refine And.intro (vp_in_nI hb (by decide)) (br_f (by rw [eS]; exact nI_ge (by omega) (by omega)) ?_)
    refine nm_r e9 (And.intro (vp_in_nI (by omega) (by decide)) (nm_r eT (And.intro hi ?_)))
    rw [sv_n2 (by omega), nI_clamp (by omega), sv_nm1]
    refine nm_e (And.intro hi (nm_e ?_))
    cases stk with
    | nil =>
      have k0 : k = 0 := by
        rcases Nat.eq_zero_or_pos k with z | z
        · exact z
        · have z' : 0 = sv_pn T (9 * b) k := hI.2.2.1 z
          omega
      subst k0
      refine br_t (Int32.le_refl _) ?_
      refine sv_xr60 (r := []) (by omega) (by omega) t8 (by decide) trivial ?_
      intro od' ow' hr'
      exact ih 1 _ od' ow' _ lf rt _ (by omega) sv_RI_1 hr' (nD lf rt fun _ _ => ⟨rfl, rfl⟩)
    | cons p r =>
      obtain ⟨e, w⟩ := p
      obtain ⟨hw, m1, m2, m3, m4, m5, m6, m7, m8⟩ := sv_RI_mid hI
      have hlr : r.length + 1 ≤ k := hI.1
      refine br_f (nI_nle (n := r.length + 1) (by omega) (by omega)) ?_
      by_cases hk1 : k = e + 1
      · refine sv_xatL (by omega) (by omega) hk1 hw (by omega) hr ?_
        intro ow1 hr1
        refine sv_xr60 (by omega) (by omega) t8 (by omega) hr1 ?_
        intro od' ow' hr'
        refine ih (k + 1) _ od' ow' _ _ rt _ (by omega) (sv_RI_L hI hk1) hr' (nD _ rt fun j hj => ⟨?_, rfl⟩)
        exact pk_un (by omega)
      · refine sv_xatR (by omega) (by omega) m7 hk1 hw (by omega) hr ?_
        intro ow1 hr1
        refine sv_xr60 (by omega) (by omega) t8 (by omega) hr1 ?_
        intro od' ow' hr'
        refine ih (k + 1) _ od' ow' _ lf _ _ (by omega) (sv_RI_R hI hk1) hr' (nD lf _ fun j hj => ⟨rfl, ?_⟩)
        exact pk_un (by omega)
def sv_kd (T : Nat → Nat) (B n : Nat) (lf rt : Nat → Int32) : Prop := ∀ e, e < n → T (B + e) < 2 → lf (B + e) = nI (B + e + 1) ∧ (T (B + e) = 1 → rt (B + e) = nI (sv_R T (B + e)))
theorem sv_xcm {post : Int32 → SX → Prop} {b : Nat} (hb : b < 2) (hS : ∀ j, S j ≤ 9) (hT : ∀ j, T j < 8) (hp : ∀ m, m < S b → 0 < sv_pn T (9 * b) m)
    (K : ∀ oc' od' ow' wh' lf' rt' jo', sv_RD T (9 * b) (S b) wh jo lf rt wh' jo' lf' rt' → (sv_cm T S b = true → sv_kd T (9 * b) (S b) lf' rt') →
      post (sv_bI (sv_cm T S b)) (rf, rg, oc', kn, ct, ab, cs, vs, sv_nF T, sv_nF S, od', ow', wh', lf', rt', jo', ta, tb, th, cn, al, fo, ts)) :
    wpX_complete post (rf, rg, oc, kn, ct, ab, cs, vs, sv_nF T, sv_nF S, od, ow, wh, lf, rt, jo, ta, tb, th, cn, al, fo, ts) (nI b) := by
  have s9 := hS b
  have eS : sv_nF S (nI b).toNatClampNeg = nI (S b) := by rw [nI_clamp (by omega)]; rfl
  unfold wpX_complete
  have sd : ∀ {post : Int32 → Prop}, post 1 → wpX_isSide post (nI b) := by
    intro post h
    rcases Nat.eq_zero_or_pos b with z | z
    · subst z
      exact br_t rfl h
    · have e : b = 1 := by omega
      subst e
      exact br_f (by decide) (br_t rfl h)
  refine sd ?_
  refine br_f (by decide) ?_
  refine ⟨_, sv_xr7 hb hS hT hp ?_ (S b) 0 [] od ow wh lf rt jo (Nat.zero_add _) sv_RI_0 trivial ⟨fun j hj => by omega, fun _ _ => ⟨rfl, rfl, rfl, rfl⟩⟩⟩
  intro stk od' ow' wh' lf' rt' jo' hI hD
  have K' := K (nI stk.length) od' ow' wh' lf' rt' jo' hD
  refine And.intro (vp_in_nI hb (by decide)) ?_
  rw [eS]
  refine br_c (fun h => ?_) (fun h => ?_)
  · have s0 : S b = 0 := by
      have : nI (S b) ≤ nI 0 := h
      rw [nI_leI (by omega) (by omega)] at this
      omega
    have e : sv_cm T S b = false := by
      unfold sv_cm
      rw [s0]
      rfl
    rw [e] at K'
    exact K' (fun z => absurd z (by decide))
  · have s1 : 0 < S b := by
      rcases Nat.eq_zero_or_pos (S b) with z | z
      · rw [z] at h
        exact absurd (Int32.le_refl _) h
      · exact z
    have hl := hI.1
    cases stk with
    | nil =>
      have z' : 0 = sv_pn T (9 * b) (S b) := hI.2.2.1 s1
      have e : sv_cm T S b = true := decide_eq_true z'.symm
      rw [e] at K'
      refine br_t rfl (K' fun _ => ?_)
      intro i hi ht
      rcases hI.2.2.2.1 i hi ht with ⟨_, r, z⟩ | ⟨z1, z2⟩
      · exact absurd z (by simp)
      · refine ⟨z1, fun t1 => ?_⟩
        rcases z2 t1 with y | ⟨n, y1, y2⟩
        · exact absurd y List.not_mem_nil
        · rw [y2]
          unfold sv_R
          rw [sv_len_eq y1]
    | cons p r =>
      obtain ⟨e, w⟩ := p
      obtain ⟨_, _, m2, _⟩ := sv_RI_mid hI
      have e : sv_cm T S b = false := decide_eq_false (by omega)
      rw [e] at K'
      have hl' : r.length + 1 ≤ S b := hl
      exact br_f (nI_ne0 (n := r.length + 1) (by omega) (by omega)) (K' (fun z => absurd z (by decide)))
theorem sv_xcm_f {post : Int32 → SX → Prop} {a : Int32} (h : sv_out a 2) (K : post 0 (rf, rg, oc, kn, ct, ab, cs, vs, tk, sz, od, ow, wh, lf, rt, jo, ta, tb, th, cn, al, fo, ts)) : wpX_complete post (rf, rg, oc, kn, ct, ab, cs, vs, tk, sz, od, ow, wh, lf, rt, jo, ta, tb, th, cn, al, fo, ts) a := by
  have h0 : ¬ a = 0 := by
    intro e
    subst e
    rcases h with h | h
    · exact absurd h (by decide)
    · exact absurd h (by decide)
  have h1 : ¬ a = 1 := by
    intro e
    subst e
    rcases h with h | h
    · exact absurd h (by decide)
    · exact absurd h (by decide)
  unfold wpX_complete
  refine br_f h0 (br_f h1 ?_)
  exact br_t rfl K
end
end
section
/-! the component: find, push, join -/
def sv_oI (o : Option Nat) : Int32 := o.elim (-1) nI
def sv_jr (S : Nat → Nat) (J : Nat → Option Nat) (jo : Nat → Int32) : Prop := ∀ n, sv_us S n → jo n = sv_oI (J n)
def sv_GR (T S : Nat → Nat) (wh lf rt : Nat → Int32) : Prop := ∀ n, sv_us S n → n < 18 → wh n = nI (T n) ∧ (T n < 2 → lf n = nI (n + 1)) ∧ (T n = 1 → rt n = nI (sv_R T n))
theorem sv_jr_u {T S : Nat → Nat} {J : Nat → Option Nat} {jo : Nat → Int32} {x y : Nat} (h : sv_jr S J jo) : sv_jr S (sv_uo J x y) (upd jo x (nI y)) := by
  intro n hn
  by_cases e : n = x
  · subst e
    rw [pk_us, sv_uos]
    rfl
  · rw [pk_un e, sv_uon e]
    exact h n hn
def sv_tr (ta tb : Nat → Int32) : List (Nat × Nat) → Prop
  | [] => True
  | p :: r => ta r.length = nI p.1 ∧ tb r.length = nI p.2 ∧ sv_tr ta tb r
theorem sv_tr_u {ta tb ta' tb' : Nat → Int32} : ∀ {l : List (Nat × Nat)}, sv_tr ta tb l → (∀ j, j < l.length → ta' j = ta j ∧ tb' j = tb j) → sv_tr ta' tb' l
  | [], _, _ => trivial
  | p :: r, h, hj => by
    have h0 := hj r.length (by rw [List.length_cons]; omega)
    exact ⟨by rw [h0.1]; exact h.1, by rw [h0.2]; exact h.2.1, sv_tr_u h.2.2 fun j hj' => hj j (by rw [List.length_cons]; omega)⟩
section
variable {rf oc kn ct : Int32} {rg : Int64} {ab cs vs tk sz od ow wh lf rt jo ta tb th cn al fo ts : Nat → Int32}
variable {T S : Nat → Nat} {J : Nat → Option Nat}
theorem sv_xfind {post : Int32 → Prop} {n : Nat} (hc : sv_CM T S) (hv : sv_V T S J) (hg : sv_GR T S wh lf rt) (hj : sv_jr S J jo) (hn : sv_us S n) (K : post (nI (sv_fd T J n))) : wpX_find post (rf, rg, oc, kn, ct, ab, cs, vs, tk, sz, od, ow, wh, lf, rt, jo, ta, tb, th, cn, al, fo, ts) (nI n) := by
  have key : ∀ k i n, i + k = 24 → sv_us S n → post (nI (sv_go T J k n)) → wX_find_4 post rf rg oc kn ct ab cs vs tk sz od ow wh lf rt jo ta tb th cn al fo ts (k + 1) (nI n) (nI i) := by
    intro k
    induction k with
    | zero =>
      intro i n hi hn K
      have e : i = 24 := by omega
      subst e
      exact br_t (Int32.le_refl _) K
    | succ k ih =>
      intro i n hi hn K
      have h21 := sv_us_lt hc hn
      have hin : vp_in (nI n) 21 := vp_in_nI h21 (by decide)
      have ej : jo (nI n).toNatClampNeg = sv_oI (J n) := by rw [nI_clamp (by omega)]; exact hj n hn
      refine br_f (nI_ge (b := 24) (by omega) (by decide)) (And.intro hin ?_)
      rw [ej]
      cases e : J n with
      | none =>
        refine br_t (by decide : (-1 : Int32) < 0) ?_
        refine pk_le 18 n (fun h => ?_) (fun h => ?_)
        · rw [sv_go_r ⟨e, fun z => by omega⟩] at K
          exact K
        · have ew : wh (nI n).toNatClampNeg = nI (T n) := by rw [nI_clamp (by omega)]; exact (hg n hn h).1
          have t8 := hc.2.2.2.2 n
          refine And.intro hin ?_
          rw [ew]
          refine pk_lt (T n) 5 (fun h5 => ?_) (fun h5 => ?_)
          · rw [sv_go_r ⟨e, fun z => by omega⟩] at K
            exact K
          · have e13 : 18 + nI (T n) - 5 = nI (13 + T n) := by
              have e1 : 18 + nI (T n) = nI (18 + T n) := nI_add 18 _
              have e2 : nI (18 + T n) - 5 = nI (18 + T n - 5) := pk_sub (b := 5) (by omega)
              rw [e1, e2]
              exact congrArg nI (by omega)
            refine And.intro hin (nm_r e13 (nm_r (nI_1 i) ?_))
            have enx : sv_nx T J n = 13 + T n := by rw [sv_nx_n e, sv_b_t h h5]
            refine ih (i + 1) (13 + T n) (by omega) (by rw [← enx]; exact sv_us_nx hc hv hn) ?_
            rw [← enx]
            exact K
      | some m =>
        have um := hv.1 n m hn e
        have m21 := sv_us_lt hc um
        refine br_f (nI_pos (n := m) (by omega)) (And.intro hin (nm_e (nm_r (nI_1 i) ?_)))
        have enx : sv_nx T J n = m := sv_nx_s e
        refine ih (i + 1) m (by omega) um ?_
        rw [← enx]
        exact K
  exact ⟨25, key 24 0 n rfl hn K⟩
theorem sv_x45 {post : Int32 → SX → Prop} {x y : Nat} {L : List (Nat × Nat)} (hc : sv_CM T S) (hg : sv_GR T S wh lf rt) (ux : sv_us S x) (uy : sv_us S y) (hx : x < 18) (hy : y < 18) (et : T x = T y)
    (hl : L.length < 64) (ht : sv_tr ta tb L)
    (K : ∀ ta' tb', sv_tr ta' tb' ((if T x < 2 then [(x + 1, y + 1)] else []) ++ L) → post (nI ((if T x < 2 then [(x + 1, y + 1)] else []) ++ L).length) (rf, rg, oc, kn, ct, ab, cs, vs, tk, sz, od, ow, wh, lf, rt, jo, ta', tb', th, cn, al, fo, ts)) :
    wX_push_45 post (nI x) (nI y) (nI L.length) rf rg oc kn ct ab cs vs tk sz od ow wh lf rt jo ta tb th cn al fo ts := by
  have ew : wh (nI x).toNatClampNeg = nI (T x) := by rw [nI_clamp (by omega)]; exact (hg x ux hx).1
  have t8 := hc.2.2.2.2 x
  have a2 := sv_ar_le (T x)
  have hi : vp_in (nI x) 21 := vp_in_nI (by omega) (by decide)
  have hi' : vp_in (nI y) 21 := vp_in_nI (by omega) (by decide)
  have hd : vp_in (nI L.length) 64 := vp_in_nI hl (by decide)
  refine And.intro hi ?_
  rw [ew]
  refine sv_xw t8 ?_
  by_cases z : T x < 2
  · rw [if_pos z] at K
    have q : [(x + 1, y + 1)] ++ L = (x + 1, y + 1) :: L := rfl
    rw [q] at K
    have e1 : lf (nI x).toNatClampNeg = nI (x + 1) := by rw [nI_clamp (by omega)]; exact (hg x ux hx).2.1 z
    have e2 : lf (nI y).toNatClampNeg = nI (y + 1) := by rw [nI_clamp (by omega)]; exact (hg y uy hy).2.1 (by omega)
    refine br_f (nI_nle (sv_ar_p.mpr z) (by omega)) (And.intro hi (And.intro hd ?_))
    rw [e1, e2, sv_n1 (by omega), sv_n1 (by omega), nI_clamp (by omega)]
    refine nm_e (And.intro hi' (And.intro hd (nm_e (nm_r (nI_1 _) ?_))))
    exact K _ _ ⟨pk_us, pk_us, sv_tr_u ht fun j hj => ⟨pk_un (by omega), pk_un (by omega)⟩⟩
  · rw [if_neg z] at K
    have e : sv_ar (T x) = 0 := sv_ar2 (by omega)
    rw [e]
    exact br_t (Int32.le_refl _) (K ta tb ht)
theorem sv_xpush {post : Int32 → SX → Prop} {x y : Nat} {L : List (Nat × Nat)} (hc : sv_CM T S) (hg : sv_GR T S wh lf rt) (ux : sv_us S x) (uy : sv_us S y) (hx : x < 18) (hy : y < 18) (et : T x = T y)
    (hl : L.length < 63) (ht : sv_tr ta tb L)
    (K : ∀ ta' tb', sv_tr ta' tb' (sv_pr T x y ++ L) → post (nI (sv_pr T x y ++ L).length) (rf, rg, oc, kn, ct, ab, cs, vs, tk, sz, od, ow, wh, lf, rt, jo, ta', tb', th, cn, al, fo, ts)) :
    wpX_push post (rf, rg, oc, kn, ct, ab, cs, vs, tk, sz, od, ow, wh, lf, rt, jo, ta, tb, th, cn, al, fo, ts) (nI x) (nI y) (nI L.length) := by
  have ew : wh (nI x).toNatClampNeg = nI (T x) := by rw [nI_clamp (by omega)]; exact (hg x ux hx).1
  have t8 := hc.2.2.2.2 x
  have hi : vp_in (nI x) 21 := vp_in_nI (by omega) (by decide)
  have hi' : vp_in (nI y) 21 := vp_in_nI (by omega) (by decide)
  have hd : vp_in (nI L.length) 64 := vp_in_nI (by omega) (by decide)
  unfold sv_pr at K
  rw [List.append_assoc] at K
  refine And.intro hi ?_
  rw [ew]
  refine sv_xw t8 ?_
  by_cases z : T x = 1
  · rw [if_pos z] at K
    have b1 := (sv_kid2 hc ux hx z).2.1
    have b2 := (sv_kid2 hc uy hy (by omega)).2.1
    have e1 : rt (nI x).toNatClampNeg = nI (sv_R T x) := by rw [nI_clamp (by omega)]; exact (hg x ux hx).2.2 z
    have e2 : rt (nI y).toNatClampNeg = nI (sv_R T y) := by rw [nI_clamp (by omega)]; exact (hg y uy hy).2.2 (by omega)
    refine br_t (by rw [z]; rfl) (And.intro hi (And.intro hd ?_))
    rw [e1, e2, sv_n1 (by omega), sv_n1 (by omega), nI_clamp (by omega)]
    refine nm_e (And.intro hi' (And.intro hd (nm_e (nm_r (nI_1 _) ?_))))
    exact sv_x45 (L := (sv_R T x, sv_R T y) :: L) hc hg ux uy hx hy et (by rw [List.length_cons]; omega) ⟨pk_us, pk_us, sv_tr_u ht fun j hj => ⟨pk_un (by omega), pk_un (by omega)⟩⟩ K
  · rw [if_neg z] at K
    have e2 : ¬ nI (sv_ar (T x)) = 2 := by
      have : ¬ sv_ar (T x) = 2 := by
        unfold sv_ar
        split
        · omega
        · omega
      intro q
      have q' : nI (sv_ar (T x)) = nI 2 := q
      rw [nI_eq (by have := sv_ar_le (T x); omega) (by omega)] at q'
      exact this q'
    exact br_f e2 (sv_x45 hc hg ux uy hx hy et (by omega) ht K)
theorem sv_pr_len (T : Nat → Nat) (x y : Nat) : (sv_pr T x y).length ≤ 2 := by
  unfold sv_pr
  rw [List.length_append]
  have a : (if T x < 2 then [(x + 1, y + 1)] else []).length ≤ 1 := by split <;> simp
  have b : (if T x = 1 then [(sv_R T x, sv_R T y)] else []).length ≤ 1 := by split <;> simp
  omega
theorem sv_xj55 {post : Int32 → SX → Prop} (hc : sv_CM T S) (hg : sv_GR T S wh lf rt)
    (K1 : ∀ J ta' tb' jo', sv_UF T S J → sv_jr S J jo' → post 1 (rf, rg, oc, kn, ct, ab, cs, vs, tk, sz, od, ow, wh, lf, rt, jo', ta', tb', th, cn, al, fo, ts)) (K0 : (∀ d, sv_W T d 0 ≠ sv_W T d 9) → ∀ ta' tb' jo', post 0 (rf, rg, oc, kn, ct, ab, cs, vs, tk, sz, od, ow, wh, lf, rt, jo', ta', tb', th, cn, al, fo, ts)) :
    ∀ n i (J : Nat → Option Nat) (L : List (Nat × Nat)) ta tb jo, 45 ≤ i + n → i + L.length + 2 * sv_nr T S J ≤ 43 → sv_JI T S J L → sv_jr S J jo → sv_tr ta tb L →
      wX_join_55 post n (nI L.length) (nI i) rf rg oc kn ct ab cs vs tk sz od ow wh lf rt jo ta tb th cn al fo ts := by
  intro n
  induction n with
  | zero => intro i J L ta tb jo h1 h2; omega
  | succ n ih =>
    intro i J L ta tb jo h1 h2 hI hj ht
    have hv := hI.1
    have nr1 := hv.2.2.2.1
    refine br_f (nI_ge (b := 64) (by omega) (by decide)) ?_
    cases L with
    | nil => exact br_t (Int32.le_refl _) (K1 J ta tb jo (sv_J_end hI) hj)
    | cons p L =>
      obtain ⟨a, b⟩ := p
      rw [List.length_cons] at h2
      have uab := hI.2.1 a b List.mem_cons_self
      have ea : ta (nI L.length).toNatClampNeg = nI a := by rw [nI_clamp (by omega)]; exact ht.1
      have eb : tb (nI L.length).toNatClampNeg = nI b := by rw [nI_clamp (by omega)]; exact ht.2.1
      have hd : vp_in (nI L.length) 64 := vp_in_nI (by omega) (by decide)
      refine br_f (nI_nle (n := L.length + 1) (by omega) (by omega)) (nm_r (pk_m1 L.length) (And.intro hd ?_))
      rw [ea, eb]
      refine sv_xfind hc hv hg hj uab.1 ?_
      refine And.intro hd ?_
      refine sv_xfind hc hv hg hj uab.2 ?_
      have ux := sv_us_fd hc hv uab.1
      have uy := sv_us_fd hc hv uab.2
      have x21 := sv_us_lt hc ux
      have y21 := sv_us_lt hc uy
      have rx := sv_fd_r hv uab.1
      have ry := sv_fd_r hv uab.2
      generalize ex : sv_fd T J a = x at *
      generalize ey : sv_fd T J b = y at *
      have hix : vp_in (nI x) 21 := vp_in_nI x21 (by decide)
      have hiy : vp_in (nI y) 21 := vp_in_nI y21 (by decide)
      refine pk_eq x y (fun e => nm_r (nI_1 i) ?_) (fun e => ?_)
      · exact ih (i + 1) J L ta tb jo (by omega) (by omega) (sv_J_same hc hI (by rw [ex, ey]; exact e)) hj ht.2.2
      · refine pk_lt x 18 (fun hx => pk_lt y 18 (fun hy => ?_) (fun hy => ?_)) (fun hx => ?_)
        · have e1 : wh (nI x).toNatClampNeg = nI (T x) := by rw [nI_clamp (by omega)]; exact (hg x ux hx).1
          have e2 : wh (nI y).toNatClampNeg = nI (T y) := by rw [nI_clamp (by omega)]; exact (hg y uy hy).1
          have tx := hc.2.2.2.2 x
          have ty := hc.2.2.2.2 y
          refine And.intro hix (And.intro hiy ?_)
          rw [e1, e2]
          refine pk_eq (T x) (T y) (fun et => ?_) (fun et => ?_)
          · obtain ⟨nI', nr'⟩ := sv_J_fun hc hI ex ey hx hy e et
            have pl := sv_pr_len T x y
            refine And.intro hix ?_
            rw [sv_n2 (by omega), nI_clamp (by omega)]
            refine nm_e ?_
            refine sv_xpush hc hg ux uy hx hy et (by omega) ht.2.2 ?_
            intro ta' tb' ht'
            refine nm_r (nI_1 i) ?_
            exact ih (i + 1) _ _ ta' tb' _ (by omega) (by rw [List.length_append]; omega) nI' (sv_jr_u (T := T) hj) ht'
          · exact K0 (sv_J_clash hc hI (by rw [ex]; exact hx) (by rw [ey]; exact hy) (by rw [ex, ey]; exact et)) ta tb jo
        · obtain ⟨nI', nr'⟩ := sv_J_var2 hc hI ex ey hy e
          refine And.intro hiy ?_
          rw [sv_n2 (by omega), nI_clamp (by omega)]
          refine nm_e (nm_r (nI_1 i) ?_)
          exact ih (i + 1) _ L ta tb _ (by omega) (by omega) nI' (sv_jr_u (T := T) hj) ht.2.2
        · obtain ⟨nI', nr'⟩ := sv_J_var1 hc hI ex ey hx e
          refine And.intro hix ?_
          rw [sv_n2 (by omega), nI_clamp (by omega)]
          refine nm_e (nm_r (nI_1 i) ?_)
          exact ih (i + 1) _ L ta tb _ (by omega) (by omega) nI' (sv_jr_u (T := T) hj) ht.2.2
theorem sv_xjoin {post : Int32 → SX → Prop} (hc : sv_CM T S) (hg : sv_GR T S wh lf rt) (hj : ∀ n, sv_us S n → n < 18 → jo n = -1)
    (K1 : ∀ J wh' ta' tb' jo', sv_UF T S J → sv_GR T S wh' lf rt → sv_jr S J jo' → post 1 (rf, rg, oc, kn, ct, ab, cs, vs, tk, sz, od, ow, wh', lf, rt, jo', ta', tb', th, cn, al, fo, ts))
    (K0 : (∀ d, sv_W T d 0 ≠ sv_W T d 9) → ∀ wh' ta' tb' jo', post 0 (rf, rg, oc, kn, ct, ab, cs, vs, tk, sz, od, ow, wh', lf, rt, jo', ta', tb', th, cn, al, fo, ts)) : wpX_join post (rf, rg, oc, kn, ct, ab, cs, vs, tk, sz, od, ow, wh, lf, rt, jo, ta, tb, th, cn, al, fo, ts) := by
  have key : ∀ k v wh jo, v + k = 3 → sv_GR T S wh lf rt → (∀ n, sv_us S n → n < 18 + v → jo n = -1) → wX_join_2 post rf rg oc kn ct (k + 1) (nI v) ab cs vs tk sz od ow wh lf rt jo ta tb th cn al fo ts := by
    intro k
    induction k with
    | zero =>
      intro v wh jo hv hg hj
      have e : v = 3 := by omega
      subst e
      have e0 : vp_nar .byte 0 = 0 := sv_n1 (a := 0) (by omega)
      have e9 : vp_nar .byte 9 = 9 := sv_n1 (a := 9) (by omega)
      refine br_t (Int32.le_refl _) ?_
      rw [e0, e9]
      refine nm_e (nm_e ?_)
      have p2 := (sv_J_0 hc).1.2.2.2.2
      refine ⟨45, sv_xj55 hc hg (fun J ta' tb' jo' hu hj' => K1 J wh ta' tb' jo' hu hg hj') (fun h ta' tb' jo' => K0 h wh ta' tb' jo') 45 0 (fun _ => none) [(0, 9)] _ _ jo (by omega) ?_ (sv_J_0 hc) ?_ ⟨pk_us, pk_us, trivial⟩⟩
      · show 0 + 1 + 2 * sv_nr T S (fun _ => none) ≤ 43
        omega
      · intro n hn
        exact hj n hn (sv_us_lt hc hn)
    | succ k ih =>
      intro v wh jo hv hg hj
      have e18 : 18 + nI v = nI (18 + v) := nI_add 18 v
      have e5 : 5 + nI v = nI (5 + v) := nI_add 5 v
      refine br_f (nI_ge (b := 3) (by omega) (by decide)) ?_
      rw [e18, e5, sv_n2 (by omega), sv_nm1, nI_clamp (by omega)]
      refine And.intro (vp_in_nI (by omega) (by decide)) (nm_e (And.intro (vp_in_nI (by omega) (by decide)) (nm_e (nm_r (nI_1 v) ?_))))
      refine ih (v + 1) _ _ (by omega) ?_ ?_
      · intro n hn h18
        rw [pk_un (by omega)]
        exact hg n hn h18
      · intro n hn hlt
        by_cases e : n = 18 + v
        · rw [e, pk_us]
        · rw [pk_un e]
          exact hj n hn (by omega)
  exact ⟨4, key 3 0 wh jo rfl hg hj⟩
end
end
section
/-! the component: things of nodes -/
def sv_tI (e : Nat) : Int32 := if e = 0 then -2 else if e = 1 then -1 else nI (e - 2)
theorem sv_tI_a : ∀ e, e < 17 → (sv_tI e = -2 ↔ e = 0) ∧ (sv_tI e < 0 ↔ e < 2) ∧ (2 < sv_tI e ↔ 4 < e) ∧ (sv_tI e ≤ 2 ↔ e ≤ 4) := by decide +kernel
theorem sv_tI_n : ∀ e, e < 17 → (sv_tI e).toInt8.toInt32 = sv_tI e := by decide +kernel
theorem sv_tI_v {e : Nat} (h : 2 ≤ e) : sv_tI e = nI (e - 2) := by
  unfold sv_tI
  rw [if_neg (by omega), if_neg (by omega)]
theorem sv_tI_nar {e : Nat} (h : e < 17) : vp_nar .byte (sv_tI e).toInt8.toInt32 = sv_tI e := by rw [sv_tI_n e h, vp_nar_byte, sv_tI_n e h]
def sv_hr (th : Nat → Int32) (H : Nat → Nat) : Prop := ∀ n, n < 21 → th n = sv_tI (H n)
theorem sv_hr_u {th : Nat → Int32} {H : Nat → Nat} {p x : Nat} (h : sv_hr th H) : sv_hr (upd th p (sv_tI x)) (sv_up H p x) := by
  intro n hn
  by_cases e : n = p
  · subst e
    rw [pk_us, sv_ups]
  · rw [pk_un e, sv_upn e]
    exact h n hn
theorem sv_xcomp {post : Int32 → Prop} {t a b : Nat} (ht : t < 2) (ha : a < 17) (hb : b < 17) (K : post (sv_tI (sv_cp t a b))) : wpX_compose post (nI t) (sv_tI a) (sv_tI b) := by
  obtain ⟨_, a1, a2, a3⟩ := sv_tI_a a ha
  obtain ⟨_, b1, b2, b3⟩ := sv_tI_a b hb
  unfold sv_cp at K
  refine ek_if a1 (fun z => ?_) (fun z => ek_if a2 (fun z2 => ?_) (fun z2 => ek_if b1 (fun y => ?_) (fun y => ek_if b3 (fun y2 => ?_) (fun y2 => ?_))))
  · rw [if_neg (by omega)] at K; exact K
  · rw [if_neg (by omega)] at K; exact K
  · rw [if_neg (by omega)] at K; exact K
  · rw [if_pos (by omega)] at K
    refine pk_eq t 0 (fun e => ?_) (fun e => ?_)
    · rw [if_pos e, sv_tI_v (by omega)] at K
      have e1 : 3 + sv_tI a = nI (a + 3 - 2) := by
        rw [sv_tI_v (by omega)]
        have : 3 + nI (a - 2) = nI (3 + (a - 2)) := nI_add 3 _
        rw [this]
        exact congrArg nI (by omega)
      rw [e1]
      exact K
    · rw [if_neg e, sv_tI_v (by omega)] at K
      have e1 : 6 + 3 * sv_tI a + sv_tI b = nI (3 * a + b - 2) := by
        rw [sv_tI_v (by omega), sv_tI_v (by omega)]
        have h1 : 3 * nI (a - 2) = nI (3 * (a - 2)) := pk_mul 3 _
        have h2 : 6 + nI (3 * (a - 2)) = nI (6 + 3 * (a - 2)) := nI_add 6 _
        rw [h1, h2, nI_add]
        exact congrArg nI (by omega)
      rw [e1]
      exact K
  · rw [if_neg (by omega)] at K; exact K
abbrev sv_JT : Type := Int32 → Int32 → Int64 → Int32 → Int32 → Int32 → (Nat → Int32) → (Nat → Int32) → (Nat → Int32) → (Nat → Int32) → (Nat → Int32) → (Nat → Int32) → (Nat → Int32) → (Nat → Int32) → (Nat → Int32) → (Nat → Int32) → (Nat → Int32) → (Nat → Int32) → (Nat → Int32) → (Nat → Int32) → (Nat → Int32) → (Nat → Int32) → (Nat → Int32) → (Nat → Int32) → Prop
section
variable {rf oc kn ct : Int32} {rg : Int64} {ab cs vs tk sz od ow wh lf rt jo ta tb th cn al fo ts : Nat → Int32}
variable {T S H : Nat → Nat} {J : Nat → Option Nat}
theorem sv_xclear {post : SX → Prop} (K : ∀ th', sv_hr th' (fun _ => 0) → post (rf, rg, oc, kn, ct, ab, cs, vs, tk, sz, od, ow, wh, lf, rt, jo, ta, tb, th', cn, al, fo, ts)) : wpX_clearThings post (rf, rg, oc, kn, ct, ab, cs, vs, tk, sz, od, ow, wh, lf, rt, jo, ta, tb, th, cn, al, fo, ts) := by
  have key : ∀ k n th, n + k = 21 → (∀ j, j < n → th j = -2) → wX_clearThings_2 post rf rg oc kn ct (k + 1) (nI n) ab cs vs tk sz od ow wh lf rt jo ta tb th cn al fo ts := by
    intro k
    induction k with
    | zero =>
      intro n th hn h
      have e : n = 21 := by omega
      subst e
      exact br_t (Int32.le_refl _) (K th h)
    | succ k ih =>
      intro n th hn h
      refine br_f (nI_ge (b := 21) (by omega) (by decide)) (And.intro (vp_in_nI (by omega) (by decide)) ?_)
      rw [sv_nm2, nI_clamp (by omega)]
      refine nm_e (nm_r (nI_1 n) (ih (n + 1) _ (by omega) ?_))
      intro j hj
      by_cases e : j = n
      · rw [e, pk_us]
      · rw [pk_un e]
        exact h j (by omega)
  exact ⟨22, key 21 0 th rfl (fun j hj => by omega)⟩
theorem sv_xb86 {post : SX → Prop} {p a b : Nat} (hp : p < 21) (h0 : H p = 0) (hr : sv_hr th H) (ht : T p < 2) (ha : a < 17) (hb : b < 17)
    (K : ∀ th', sv_hr th' (if a ≠ 0 ∧ b ≠ 0 then sv_up H p (sv_cp (T p) a b) else H) → post (rf, rg, oc, kn, ct, ab, cs, vs, tk, sz, od, ow, wh, lf, rt, jo, ta, tb, th', cn, al, fo, ts)) : wX_build_86 post (nI p) (nI (T p)) (sv_tI a) (sv_tI b) rf rg oc kn ct ab cs vs tk sz od ow wh lf rt jo ta tb th cn al fo ts := by
  refine ek_if (sv_tI_a a ha).1 (fun z => ?_) (fun z => ek_if (sv_tI_a b hb).1 (fun y => ?_) (fun y => ?_))
  · rw [if_neg (fun q => q.1 z)] at K
    exact K th hr
  · rw [if_neg (fun q => q.2 y)] at K
    exact K th hr
  · rw [if_pos ⟨z, y⟩] at K
    refine sv_xcomp ht ha hb ?_
    have lc := sv_cp_le (T p) a b
    refine And.intro (vp_in_nI hp (by decide)) ?_
    rw [sv_tI_nar (by omega), nI_clamp (by omega)]
    exact nm_e (K _ (sv_hr_u hr))
theorem sv_xbuild {post : SX → Prop} {p : Nat} (hc : sv_CM T S) (hv : sv_V T S J) (hg : sv_GR T S wh lf rt) (hj : sv_jr S J jo) (hr : sv_hr th H) (h16 : ∀ n, H n ≤ 16) (hp : sv_us S p) (h18 : p < 18)
    (K : ∀ th', sv_hr th' (sv_bl T J H p) → post (rf, rg, oc, kn, ct, ab, cs, vs, tk, sz, od, ow, wh, lf, rt, jo, ta, tb, th', cn, al, fo, ts)) : wpX_build post (rf, rg, oc, kn, ct, ab, cs, vs, tk, sz, od, ow, wh, lf, rt, jo, ta, tb, th, cn, al, fo, ts) (nI p) := by
  have hi : vp_in (nI p) 21 := vp_in_nI (by omega) (by decide)
  have u21 := sv_us_lt hc (sv_us_fd hc hv hp)
  have t8 := hc.2.2.2.2 p
  obtain ⟨g1, g2, g3⟩ := hg p hp h18
  have ew : wh (nI p).toNatClampNeg = nI (T p) := by rw [nI_clamp (by omega)]; exact g1
  have et : th (nI p).toNatClampNeg = sv_tI (H p) := by rw [nI_clamp (by omega)]; exact hr p (by omega)
  have hp16 := h16 p
  unfold wpX_build
  refine sv_xfind hc hv hg hj hp ?_
  unfold sv_bl at K
  refine pk_eq _ p (fun e => ?_) (fun e => ?_) rfl rfl (by omega) (by omega)
  · refine And.intro hi ?_
    rw [et]
    refine ek_if (sv_tI_a (H p) (by omega)).1 (fun z => ?_) (fun z => ?_)
    · rw [if_pos ⟨e, z⟩] at K
      refine And.intro hi (nm_r ew ?_)
      refine pk_lt (T p) 2 (fun h2 => ?_) (fun h2 => ?_)
      · rw [if_neg (by omega)] at K
        have k1 := (sv_kid1 hc hp h18 h2).1
        have q21 := sv_us_lt hc (sv_us_fd hc hv k1)
        have el : lf (nI p).toNatClampNeg = nI (p + 1) := by rw [nI_clamp (by omega)]; exact g2 h2
        have ea : th (nI (sv_fd T J (p + 1))).toNatClampNeg = sv_tI (H (sv_fd T J (p + 1))) := by rw [nI_clamp (by omega)]; exact hr _ q21
        have a16 := h16 (sv_fd T J (p + 1))
        refine And.intro hi ?_
        rw [el]
        refine sv_xfind hc hv hg hj k1 ?_
        refine And.intro (vp_in_nI q21 (by decide)) (nm_r ea ?_)
        refine pk_eq (T p) 1 (fun t1 => ?_) (fun t1 => ?_)
        · have k2 := (sv_kid2 hc hp h18 t1).1
          have r21 := sv_us_lt hc (sv_us_fd hc hv k2)
          have er : rt (nI p).toNatClampNeg = nI (sv_R T p) := by rw [nI_clamp (by omega)]; exact g3 t1
          have eb : th (nI (sv_fd T J (sv_R T p))).toNatClampNeg = sv_tI (H (sv_fd T J (sv_R T p))) := by rw [nI_clamp (by omega)]; exact hr _ r21
          have b16 := h16 (sv_fd T J (sv_R T p))
          refine And.intro hi ?_
          rw [er]
          refine sv_xfind hc hv hg hj k2 ?_
          refine And.intro (vp_in_nI r21 (by decide)) ?_
          rw [eb]
          rw [sv_hb_1 t1] at K
          exact sv_xb86 (by omega) z hr h2 (by omega) (by omega) K
        · rw [sv_hb_0 t1] at K
          exact sv_xb86 (b := 2) (by omega) z hr h2 (by omega) (by omega) K
      · rw [if_pos h2] at K
        have e2 : nI (T p) - 2 = sv_tI (T p) := by
          rw [sv_tI_v h2]
          exact pk_sub (b := 2) h2
        refine And.intro hi ?_
        rw [e2, sv_tI_nar (by omega), nI_clamp (by omega)]
        exact nm_e (K _ (sv_hr_u hr))
    · rw [if_neg (fun q => z q.2)] at K
      exact K th hr
  · rw [if_neg (fun q => e q.1)] at K
    exact K th hr
theorem sv_xw23 {post : SX → Prop} {J2 J9 : sv_JT} {x1 : Int32} {b : Nat} (hb : b < 2) (hc : sv_CM T S) (hv : sv_V T S J) (hg : sv_GR T S wh lf rt) (hj : sv_jr S J jo) :
    ∀ k x3 th H, 9 * b + k ≤ 18 → k ≤ S b → x3 = nI k + (-1) → sv_hr th H → (∀ n, H n ≤ 16) → (∀ th', sv_hr th' (sv_dn T J b k H) → J9 (nI (b + 1)) rf rg oc kn ct ab cs vs tk sz od ow wh lf rt jo ta tb th' cn al fo ts) →
      wX_workOut_23 post J2 J9 x1 (nI b) (k + 1) x3 rf rg oc kn ct ab cs vs tk sz od ow wh lf rt jo ta tb th cn al fo ts := by
  intro k
  induction k with
  | zero =>
    intro x3 th H h9 hS ex hr h16 K
    subst ex
    exact br_t (by decide) (nm_r (nI_1 b) (K th hr))
  | succ k ih =>
    intro x3 th H h9 hS ex hr h16 K
    rw [pk_m1] at ex
    subst ex
    have up : sv_us S (9 * b + k) := by
      rcases Nat.eq_zero_or_pos b with z | z
      · subst z
        exact Or.inl (by omega)
      · have e : b = 1 := by omega
        subst e
        exact Or.inr (Or.inl ⟨by omega, by omega⟩)
    have e9 : nI b * 9 + nI k = nI (9 * b + k) := by
      have : nI b * 9 = nI (b * 9) := pk_mul b 9
      rw [this, nI_add, Nat.mul_comm]
    refine br_f (nI_pos (by omega)) ?_
    rw [e9]
    refine sv_xbuild hc hv hg hj hr h16 up (by omega) ?_
    intro th' hr'
    refine nm_e ?_
    exact ih _ th' _ (by omega) (by omega) rfl hr' (sv_bl_le hc h16 _) K
theorem sv_xw9 {post : SX → Prop} {J2 : sv_JT} {i : Nat} (hS : ∀ j, S j ≤ 9) (hc : sv_CM T S) (hv : sv_V T S J) (hg : sv_GR T S wh lf rt) (hj : sv_jr S J jo) (hr : sv_hr th H) (h16 : ∀ n, H n ≤ 16)
    (K : ∀ th', sv_hr th' (sv_rn T S J H) → J2 (nI (i + 1)) rf rg oc kn ct ab cs vs tk (sv_nF S) od ow wh lf rt jo ta tb th' cn al fo ts) : wX_workOut_9 post J2 (nI i) 3 0 rf rg oc kn ct ab cs vs tk (sv_nF S) od ow wh lf rt jo ta tb th cn al fo ts := by
  have s0 := hS 0
  have s1 := hS 1
  have e0 : sv_nF S (0 : Int32).toNatClampNeg - 1 = nI (S 0) + (-1) := Int32.sub_eq_add_neg _ _
  have e1 : sv_nF S (1 : Int32).toNatClampNeg - 1 = nI (S 1) + (-1) := Int32.sub_eq_add_neg _ _
  refine br_f (by decide) (And.intro (vp_in_nI (n := 0) (by decide) (by decide)) (nm_r e0 ?_))
  refine ⟨_, sv_xw23 (b := 0) (by omega) hc hv hg hj (S 0) _ th H (by omega) (Nat.le_refl _) rfl hr h16 ?_⟩
  intro th1 hr1
  refine br_f (by decide) (And.intro (vp_in_nI (n := 1) (by decide) (by decide)) (nm_r e1 ?_))
  refine ⟨_, sv_xw23 (b := 1) (by omega) hc hv hg hj (S 1) _ th1 _ (by omega) (Nat.le_refl _) rfl hr1 (sv_dn_le hc _ _ h16) ?_⟩
  intro th2 hr2
  exact br_t (Int32.le_refl _) (nm_r (nI_1 i) (K th2 hr2))
theorem sv_xwork {post : SX → Prop} (hS : ∀ j, S j ≤ 9) (hc : sv_CM T S) (hv : sv_V T S J) (hg : sv_GR T S wh lf rt) (hj : sv_jr S J jo) (hr : sv_hr th H) (h16 : ∀ n, H n ≤ 16)
    (K : ∀ th', sv_hr th' (sv_wo T S J H) → post (rf, rg, oc, kn, ct, ab, cs, vs, tk, sv_nF S, od, ow, wh, lf, rt, jo, ta, tb, th', cn, al, fo, ts)) : wpX_workOut post (rf, rg, oc, kn, ct, ab, cs, vs, tk, sv_nF S, od, ow, wh, lf, rt, jo, ta, tb, th, cn, al, fo, ts) := by
  have l1 := sv_rn_le (J := J) hc h16
  have l2 := sv_rn_le (J := J) hc l1
  have l3 := sv_rn_le (J := J) hc l2
  refine ⟨5, ?_⟩
  refine br_f (by decide) ⟨3, ?_⟩
  refine sv_xw9 (i := 0) hS hc hv hg hj hr h16 ?_
  intro th1 hr1
  refine br_f (by decide) ⟨3, ?_⟩
  refine sv_xw9 (i := 1) hS hc hv hg hj hr1 l1 ?_
  intro th2 hr2
  refine br_f (by decide) ⟨3, ?_⟩
  refine sv_xw9 (i := 2) hS hc hv hg hj hr2 l2 ?_
  intro th3 hr3
  refine br_f (by decide) ⟨3, ?_⟩
  refine sv_xw9 (i := 3) hS hc hv hg hj hr3 l3 ?_
  intro th4 hr4
  exact br_t (Int32.le_refl _) (K th4 hr4)
end
end
section
/-! the component: note, check -/
abbrev sv_JR : Type := Int32 → (Nat → Int32) → (Nat → Int32) → (Nat → Int32) → (Nat → Int32) → (Nat → Int32) → (Nat → Int32) → (Nat → Int32) → (Nat → Int32) → (Nat → Int32) → (Nat → Int32) → (Nat → Int32) → (Nat → Int32) → (Nat → Int32) → (Nat → Int32) → (Nat → Int32) → (Nat → Int32) → (Nat → Int32) → (Nat → Int32) → Prop
theorem sv_us18 {S : Nat → Nat} {v : Nat} (h : v < 3) : sv_us S (18 + v) := Or.inr (Or.inr ⟨by omega, by omega⟩)
section
variable {rf oc kn ct : Int32} {rg : Int64} {ab cs vs tk sz od ow wh lf rt jo ta tb th cn al fo ts : Nat → Int32}
variable {T S d : Nat → Nat} {J : Nat → Option Nat}
theorem sv_xn61 {post : SX → Prop} {J12 : sv_JR} {x1 : Int32} {v : Nat} {al0 : Nat → Int32} (hc : sv_CM T S) (hv : sv_V T S J) (hg : sv_GR T S wh lf rt) (hj : sv_jr S J jo) (hd : ∀ v, v < 3 → th (sv_fd T J (18 + v)) = nI (d v)) (h15 : ∀ v, v < 3 → d v < 15) (v3 : v < 3)
    (K : ∀ al', (∀ w, w < 3 → al' (v * 3 + w) = if d v = d w then al0 (v * 3 + w) + 1 else al0 (v * 3 + w)) → (∀ j, j < v * 3 ∨ v * 3 + 3 ≤ j → al' j = al0 j) → J12 (nI (v + 1)) ab cs vs tk sz od ow wh lf rt jo ta tb th cn al' fo ts) :
    ∀ k u al, u + k = 3 → (∀ w, w < u → al (v * 3 + w) = if d v = d w then al0 (v * 3 + w) + 1 else al0 (v * 3 + w)) → (∀ j, j < v * 3 ∨ v * 3 + u ≤ j → al j = al0 j) →
      wX_note_61 post J12 x1 (nI v) (nI (d v)) rf rg oc kn ct (k + 1) (nI u) ab cs vs tk sz od ow wh lf rt jo ta tb th cn al fo ts := by
  intro k
  induction k with
  | zero =>
    intro u al hu h1 h2
    have e : u = 3 := by omega
    subst e
    exact br_t (Int32.le_refl _) (nm_r (nI_1 v) (K al h1 h2))
  | succ k ih =>
    intro u al hu h1 h2
    have u3 : u < 3 := by omega
    have e18 : 18 + nI u = nI (18 + u) := nI_add 18 u
    have r21 := sv_us_lt hc (sv_us_fd hc hv (sv_us18 (S := S) u3))
    have et : th (nI (sv_fd T J (18 + u))).toNatClampNeg = nI (d u) := by rw [nI_clamp (by omega)]; exact hd u u3
    have ei : nI v * 3 + nI u = nI (v * 3 + u) := by
      have : nI v * 3 = nI (v * 3) := pk_mul v 3
      rw [this, nI_add]
    have du := h15 u u3
    have dv := h15 v v3
    refine br_f (nI_ge (b := 3) u3 (by decide)) ?_
    rw [e18]
    refine sv_xfind hc hv hg hj (sv_us18 u3) ?_
    refine And.intro (vp_in_nI r21 (by decide)) ?_
    rw [et, ei]
    have hi : vp_in (nI (v * 3 + u)) 9 := vp_in_nI (by omega) (by decide)
    refine pk_eq (d u) (d v) (fun e => And.intro hi (And.intro hi ?_)) (fun e => nm_r (nI_1 u) ?_)
    · rw [nI_clamp (by omega), h2 (v * 3 + u) (by omega)]
      refine nm_e (nm_r (nI_1 u) (ih (u + 1) _ (by omega) ?_ ?_))
      · intro w hw
        by_cases z : w = u
        · subst z
          rw [pk_us, if_pos e.symm]
        · rw [pk_un (by omega)]
          exact h1 w (by omega)
      · intro j hj'
        rw [pk_un (by omega)]
        exact h2 j (by omega)
    · refine ih (u + 1) al (by omega) ?_ (fun j hj' => h2 j (by omega))
      intro w hw
      by_cases z : w = u
      · subst z
        rw [if_neg (fun q => e q.symm)]
        exact h2 _ (by omega)
      · exact h1 w (by omega)
def sv_nsp (d : Nat → Nat) (bt : Bool) (v : Nat) (cn0 al0 fo0 cn al fo : Nat → Int32) : Prop :=
  (∀ u t, u < v → t < 15 → cn (u * 15 + t) = if d u = t then cn0 (u * 15 + t) + 1 else cn0 (u * 15 + t)) ∧
  (∀ u w, u < v → w < 3 → al (u * 3 + w) = if d u = d w then al0 (u * 3 + w) + 1 else al0 (u * 3 + w)) ∧
  (∀ u, u < v → fo u = if bt = true then nI (d u) else fo0 u) ∧
  (∀ j, v * 15 ≤ j → cn j = cn0 j) ∧ (∀ j, v * 3 ≤ j → al j = al0 j) ∧ (∀ j, v ≤ j → fo j = fo0 j)
theorem sv_xn12 {post : SX → Prop} {bt : Bool} {cn0 al0 fo0 : Nat → Int32} (hc : sv_CM T S) (hv : sv_V T S J) (hg : sv_GR T S wh lf rt) (hj : sv_jr S J jo) (hd : ∀ v, v < 3 → th (sv_fd T J (18 + v)) = nI (d v)) (h15 : ∀ v, v < 3 → d v < 15)
    (K : ∀ cn' al' fo', sv_nsp d bt 3 cn0 al0 fo0 cn' al' fo' → post (rf, rg, oc, kn, ct, ab, cs, vs, tk, sz, od, ow, wh, lf, rt, jo, ta, tb, th, cn', al', fo', ts)) :
    ∀ k v cn al fo, v + k = 3 → sv_nsp d bt v cn0 al0 fo0 cn al fo → wX_note_12 post (sv_bI bt) rf rg oc kn ct (k + 1) (nI v) ab cs vs tk sz od ow wh lf rt jo ta tb th cn al fo ts := by
  intro k
  induction k with
  | zero =>
    intro v cn al fo hv3 h
    have e : v = 3 := by omega
    subst e
    exact br_t (Int32.le_refl _) (K cn al fo h)
  | succ k ih =>
    intro v cn al fo hv3 h
    obtain ⟨c1, a1, f1, c2, a2, f2⟩ := h
    have v3 : v < 3 := by omega
    have e18 : 18 + nI v = nI (18 + v) := nI_add 18 v
    have r21 := sv_us_lt hc (sv_us_fd hc hv (sv_us18 (S := S) v3))
    have et : th (nI (sv_fd T J (18 + v))).toNatClampNeg = nI (d v) := by rw [nI_clamp (by omega)]; exact hd v v3
    have dv := h15 v v3
    have ei : nI v * 15 + nI (d v) = nI (v * 15 + d v) := by
      have : nI v * 15 = nI (v * 15) := pk_mul v 15
      rw [this, nI_add]
    have hi : vp_in (nI (v * 15 + d v)) 45 := vp_in_nI (by omega) (by decide)
    refine br_f (nI_ge (b := 3) v3 (by decide)) ?_
    rw [e18]
    refine sv_xfind hc hv hg hj (sv_us18 v3) ?_
    refine And.intro (vp_in_nI r21 (by decide)) (nm_r et ?_)
    rw [ei]
    refine And.intro hi (And.intro hi ?_)
    rw [nI_clamp (by omega), c2 (v * 15 + d v) (by omega)]
    refine nm_e ?_
    -- the counts of this row
    have nc1 : ∀ u t, u < v + 1 → t < 15 → upd cn (v * 15 + d v) (cn0 (v * 15 + d v) + 1) (u * 15 + t) = if d u = t then cn0 (u * 15 + t) + 1 else cn0 (u * 15 + t) := by
      intro u t hu ht
      by_cases z : u = v
      · subst z
        by_cases y : d u = t
        · subst y
          rw [pk_us, if_pos rfl]
        · rw [pk_un (by omega), if_neg y]
          exact c2 _ (by omega)
      · rw [pk_un (by omega)]
        exact c1 u t (by omega) ht
    have nc2 : ∀ j, (v + 1) * 15 ≤ j → upd cn (v * 15 + d v) (cn0 (v * 15 + d v) + 1) j = cn0 j := by
      intro j hj'
      rw [pk_un (by omega)]
      exact c2 j (by omega)
    have fin : ∀ fo', (∀ u, u < v + 1 → fo' u = if bt = true then nI (d u) else fo0 u) → (∀ j, v + 1 ≤ j → fo' j = fo0 j) →
        ∃ n61, wX_note_61 post (wX_note_12 post (sv_bI bt) rf rg oc kn ct (k + 1)) (sv_bI bt) (nI v) (nI (d v)) rf rg oc kn ct n61 0 ab cs vs tk sz od ow wh lf rt jo ta tb th (upd cn (v * 15 + d v) (cn0 (v * 15 + d v) + 1)) al fo' ts := by
      intro fo' g1 g2
      refine ⟨4, sv_xn61 (al0 := al) hc hv hg hj hd h15 v3 ?_ 3 0 al rfl (fun w hw => by omega) (fun _ _ => rfl)⟩
      intro al' b1 b2
      refine ih (v + 1) _ al' fo' (by omega) ⟨nc1, ?_, g1, nc2, ?_, g2⟩
      · intro u w hu hw
        by_cases z : u = v
        · subst z
          rw [b1 w hw, a2 _ (by omega)]
        · rw [b2 _ (by omega)]
          exact a1 u w (by omega) hw
      · intro j hj'
        rw [b2 j (by omega)]
        exact a2 j (by omega)
    cases bt with
    | false =>
      refine br_t rfl (fin fo ?_ (fun j hj' => f2 j (by omega)))
      intro u hu
      by_cases z : u = v
      · subst z
        rw [if_neg (by decide)]
        exact f2 u (by omega)
      · exact f1 u (by omega)
    | true =>
      refine br_f (by decide) (And.intro (vp_in_nI v3 (by decide)) ?_)
      rw [sv_n2 (by omega), nI_clamp (by omega)]
      refine nm_e (fin _ ?_ ?_)
      · intro u hu
        by_cases z : u = v
        · subst z
          rw [pk_us, if_pos rfl]
        · rw [pk_un (by omega)]
          exact f1 u (by omega)
      · intro j hj'
        rw [pk_un (by omega)]
        exact f2 j (by omega)
theorem sv_xnote {post : SX → Prop} {bt : Bool} (hc : sv_CM T S) (hv : sv_V T S J) (hg : sv_GR T S wh lf rt) (hj : sv_jr S J jo) (hd : ∀ v, v < 3 → th (sv_fd T J (18 + v)) = nI (d v)) (h15 : ∀ v, v < 3 → d v < 15)
    (K : ∀ cn' al' fo', sv_nsp d bt 3 cn al fo cn' al' fo' → post (rf, rg, oc, kn, ct + 1, ab, cs, vs, tk, sz, od, ow, wh, lf, rt, jo, ta, tb, th, cn', al', fo', ts)) : wpX_note post (rf, rg, oc, kn, ct, ab, cs, vs, tk, sz, od, ow, wh, lf, rt, jo, ta, tb, th, cn, al, fo, ts) (sv_bI bt) :=
  nm_e ⟨4, sv_xn12 hc hv hg hj hd h15 K 3 0 cn al fo rfl ⟨fun u t hu => by omega, fun u t hu => by omega, fun u hu => by omega, fun _ _ => rfl, fun _ _ => rfl, fun _ _ => rfl⟩⟩
/-- which is better: from place v on, so far equal -/
def sv_lr (d e : Nat → Nat) : Nat → Nat → Bool → Bool
  | 0, _, c => c
  | k + 1, v, _ => if d v = e v then sv_lr d e k (v + 1) false else decide (d v < e v)
theorem sv_lr_x (d e : Nat → Nat) : sv_lr d e 3 0 false = sv_lx d e := by
  unfold sv_lx
  show (if d 0 = e 0 then (if d 1 = e 1 then (if d 2 = e 2 then false else decide (d 2 < e 2)) else decide (d 1 < e 1)) else decide (d 0 < e 0)) = _
  by_cases h0 : d 0 = e 0
  · rw [if_pos h0]
    by_cases h1 : d 1 = e 1
    · rw [if_pos h1]
      by_cases h2 : d 2 = e 2
      · simp [h0, h1, h2]
      · simp [h0, h1, h2]
    · simp [h0, h1]
  · simp [h0]
theorem sv_xc82z {post : SX → Prop} {x1 x3 : Int32} {n : Nat} (K : wX_check_146 post x1 rf rg oc kn ct ab cs vs tk sz od ow wh lf rt jo ta tb th cn al fo ts) : wX_check_82 post rf rg oc kn ct ab cs vs tk sz od ow wh lf rt jo ta tb th cn al fo ts (n + 1) x1 0 x3 := br_c (fun _ => K) (fun _ => br_t rfl K)
theorem sv_xc82 {post : SX → Prop} {e : Nat → Nat} (hc : sv_CM T S) (hv : sv_V T S J) (hg : sv_GR T S wh lf rt) (hj : sv_jr S J jo) (hd : ∀ v, v < 3 → th (sv_fd T J (18 + v)) = nI (d v)) (h15 : ∀ v, v < 3 → d v < 15)
    (he : ∀ v, v < 3 → fo v = nI (e v)) (e15 : ∀ v, v < 3 → e v < 15) :
    ∀ k v c, v + k = 3 → wX_check_146 post (sv_bI (sv_lr d e k v c)) rf rg oc kn ct ab cs vs tk sz od ow wh lf rt jo ta tb th cn al fo ts → wX_check_82 post rf rg oc kn ct ab cs vs tk sz od ow wh lf rt jo ta tb th cn al fo ts (k + 1) (sv_bI c) 1 (nI v) := by
  intro k
  induction k with
  | zero =>
    intro v c hk K
    have e3 : v = 3 := by omega
    subst e3
    exact br_t (Int32.le_refl _) K
  | succ k ih =>
    intro v c hk K
    have v3 : v < 3 := by omega
    have e18 : 18 + nI v = nI (18 + v) := nI_add 18 v
    have r21 := sv_us_lt hc (sv_us_fd hc hv (sv_us18 (S := S) v3))
    have et : th (nI (sv_fd T J (18 + v))).toNatClampNeg = nI (d v) := by rw [nI_clamp (by omega)]; exact hd v v3
    have ef : fo (nI v).toNatClampNeg = nI (e v) := by rw [nI_clamp (by omega)]; exact he v v3
    have hi : vp_in (nI v) 3 := vp_in_nI v3 (by decide)
    have dv := h15 v v3
    have ev := e15 v v3
    have K' : wX_check_146 post (sv_bI (if d v = e v then sv_lr d e k (v + 1) false else decide (d v < e v))) rf rg oc kn ct ab cs vs tk sz od ow wh lf rt jo ta tb th cn al fo ts := K
    refine br_f (nI_ge (b := 3) v3 (by decide)) (br_f (by decide) ?_)
    rw [e18]
    refine sv_xfind hc hv hg hj (sv_us18 v3) ?_
    refine And.intro (vp_in_nI r21 (by decide)) (nm_r et (And.intro hi ?_))
    rw [ef]
    refine pk_le (e v) (d v) (fun h => ?_) (fun h => ?_)
    · refine And.intro hi ?_
      rw [ef]
      refine pk_eq (d v) (e v) (fun z => nm_r (nI_1 v) ?_) (fun z => nm_r (nI_1 v) ?_)
      · rw [if_pos z] at K'
        exact ih (v + 1) false (by omega) K'
      · rw [if_neg z, decide_eq_false (by omega)] at K'
        exact sv_xc82z K'
    · refine And.intro hi ?_
      rw [ef]
      refine br_f (by rw [nI_eq (by omega) (by omega)]; omega) (nm_r (nI_1 v) ?_)
      rw [if_neg (by omega), decide_eq_true h] at K'
      exact sv_xc82z K'
theorem sv_xc66 {post : SX → Prop} {n : Nat} {e : Nat → Nat} (hc : sv_CM T S) (hv : sv_V T S J) (hg : sv_GR T S wh lf rt) (hj : sv_jr S J jo) (hd : ∀ v, v < 3 → th (sv_fd T J (18 + v)) = nI (d v)) (h15 : ∀ v, v < 3 → d v < 15)
    (hn : n ≤ 3375) (he : 0 < n → ∀ v, v < 3 → fo v = nI (e v)) (e15 : ∀ v, v < 3 → e v < 15)
    (K : ∀ cn' al' fo', sv_nsp d (decide (n = 0) || sv_lx d e) 3 cn al fo cn' al' fo' → post (rf, rg, oc, kn, nI (n + 1), ab, cs, vs, tk, sz, od, ow, wh, lf, rt, jo, ta, tb, th, cn', al', fo', ts)) :
    (nI n = 0 → wX_check_66 post 1 rf rg oc kn (nI n) ab cs vs tk sz od ow wh lf rt jo ta tb th cn al fo ts) ∧ (¬ nI n = 0 → wX_check_66 post 0 rf rg oc kn (nI n) ab cs vs tk sz od ow wh lf rt jo ta tb th cn al fo ts) := by
  have nt : ∀ b, b = (decide (n = 0) || sv_lx d e) → wX_check_146 post (sv_bI b) rf rg oc kn (nI n) ab cs vs tk sz od ow wh lf rt jo ta tb th cn al fo ts := by
    intro b hb
    subst hb
    refine sv_xnote hc hv hg hj hd h15 ?_
    intro cn' al' fo' h
    have := K cn' al' fo' h
    rw [← nI_1] at this
    exact this
  refine pk_eq n 0 (fun z => ?_) (fun z => ?_)
  · subst z
    exact br_t (Int32.le_refl _) ⟨1, sv_xc82z (nt true rfl)⟩
  · refine br_f (nI_nle (by omega) (by omega)) ⟨4, ?_⟩
    refine sv_xc82 hc hv hg hj hd h15 (he (by omega)) e15 3 0 false rfl ?_
    refine nt _ ?_
    rw [sv_lr_x, decide_eq_false z]
    rfl
end
end
section
/-! the component: check, tryAll, solve -/
section
variable {rf oc kn ct : Int32} {rg : Int64} {ab cs vs tk sz od ow wh lf rt jo ta tb th cn al fo ts : Nat → Int32}
variable {T S V m : Nat → Nat} {J : Nat → Option Nat} {fr : Nat → Bool}
def sv_ac (m V T S : Nat → Nat) (J : Nat → Option Nat) (fr : Nat → Bool) (c : Nat) : Prop := ∀ v, v < 3 → 2 ≤ sv_Hf T S J fr c (18 + v) ∧ (m (sv_Hf T S J fr c (18 + v) - 2)).testBit (V v) = true
theorem sv_xcheck {post : SX → Prop} {n c : Nat} {e : Nat → Nat} (hS : ∀ j, S j ≤ 9) (hV : ∀ j, V j < 4) (hm : ∀ t, m t < 16) (hts : ∀ t, t < 15 → ts t = nI (m t))
    (hc : sv_CM T S) (hv : sv_V T S J) (hg : sv_GR T S wh lf rt) (hj : sv_jr S J jo) (hr : sv_hr th (sv_H0 fr c))
    (hn : n ≤ 3375) (he : 0 < n → ∀ v, v < 3 → fo v = nI (e v)) (e15 : ∀ v, v < 3 → e v < 15)
    (K0 : ¬ sv_ac m V T S J fr c → ∀ th', post (rf, rg, oc, kn, nI n, ab, cs, sv_nF V, tk, sv_nF S, od, ow, wh, lf, rt, jo, ta, tb, th', cn, al, fo, ts))
    (K1 : sv_ac m V T S J fr c → ∀ th' cn' al' fo', sv_nsp (fun v => sv_Hf T S J fr c (18 + v) - 2) (decide (n = 0) || sv_lx (fun v => sv_Hf T S J fr c (18 + v) - 2) e) 3 cn al fo cn' al' fo' →
      post (rf, rg, oc, kn, nI (n + 1), ab, cs, sv_nF V, tk, sv_nF S, od, ow, wh, lf, rt, jo, ta, tb, th', cn', al', fo', ts)) : wpX_check post (rf, rg, oc, kn, nI n, ab, cs, sv_nF V, tk, sv_nF S, od, ow, wh, lf, rt, jo, ta, tb, th, cn, al, fo, ts) := by
  refine sv_xwork hS hc hv hg hj hr (sv_H0_le fr c) ?_
  intro th' hr'
  have k0 := fun h => K0 h th'
  have k1 := fun h => K1 h th'
  have D16 : ∀ v, sv_Hf T S J fr c (18 + v) ≤ 16 := fun v => sv_Hf_le hc
  have hD : ∀ v, v < 3 → th' (sv_fd T J (18 + v)) = sv_tI (sv_Hf T S J fr c (18 + v)) := fun v hv3 => hr' _ (sv_us_lt hc (sv_us_fd hc hv (sv_us18 hv3)))
  have key : ∀ k v, v + k = 3 → (∀ u, u < v → 2 ≤ sv_Hf T S J fr c (18 + u) ∧ (m (sv_Hf T S J fr c (18 + u) - 2)).testBit (V u) = true) → wX_check_6 post rf rg oc kn (nI n) ab cs (sv_nF V) tk (sv_nF S) od ow wh lf rt jo ta tb th' cn al fo ts (k + 1) (nI v) := by
    intro k
    induction k with
    | zero =>
      intro v hk h
      have e3 : v = 3 := by omega
      subst e3
      refine br_t (Int32.le_refl _) ?_
      refine sv_xc66 (d := fun v => sv_Hf T S J fr c (18 + v) - 2) hc hv hg hj ?_ ?_ hn he e15 (k1 h)
      · intro v hv3
        rw [hD v hv3, sv_tI_v (h v hv3).1]
      · intro v hv3
        have := D16 v
        have := (h v hv3).1
        show sv_Hf T S J fr c (18 + v) - 2 < 15
        omega
    | succ k ih =>
      intro v hk h
      have v3 : v < 3 := by omega
      have e18 : 18 + nI v = nI (18 + v) := nI_add 18 v
      have r21 := sv_us_lt hc (sv_us_fd hc hv (sv_us18 (S := S) v3))
      have et : th' (nI (sv_fd T J (18 + v))).toNatClampNeg = sv_tI (sv_Hf T S J fr c (18 + v)) := by rw [nI_clamp (by omega)]; exact hD v v3
      have d16 := D16 v
      have eV : sv_nF V (nI v).toNatClampNeg = nI (V v) := by rw [nI_clamp (by omega)]; rfl
      have v4 := hV v
      refine br_f (nI_ge (b := 3) v3 (by decide)) ?_
      rw [e18]
      refine sv_xfind hc hv hg hj (sv_us18 v3) ?_
      refine And.intro (vp_in_nI r21 (by decide)) (nm_r et ?_)
      refine ek_if (sv_tI_a _ (by omega)).2.1 (fun z => ?_) (fun z => ?_)
      · refine k0 fun h' => ?_
        have := (h' v v3).1
        omega
      · have z2 : 2 ≤ sv_Hf T S J fr c (18 + v) := by omega
        rw [sv_tI_v z2]
        have es : ts (nI (sv_Hf T S J fr c (18 + v) - 2)).toNatClampNeg = nI (m (sv_Hf T S J fr c (18 + v) - 2)) := by rw [nI_clamp (by omega)]; exact hts _ (by omega)
        have mm := hm (sv_Hf T S J fr c (18 + v) - 2)
        refine And.intro (vp_in_nI (by omega) (by decide)) (And.intro (vp_in_nI v3 (by decide)) ?_)
        rw [es, eV]
        cases hb : (m (sv_Hf T S J fr c (18 + v) - 2)).testBit (V v) with
        | false =>
          refine br_t ((sv_tb0 (by omega) (by omega)).mpr hb) ?_
          refine k0 fun h' => ?_
          have := (h' v v3).2
          rw [hb] at this
          exact absurd this (by decide)
        | true =>
          refine br_f (by rw [sv_tb0 (by omega) (by omega), hb]; decide) (nm_r (nI_1 v) (ih (v + 1) (by omega) ?_))
          intro u hu
          by_cases q : u = v
          · subst q
            exact ⟨z2, hb⟩
          · exact h u (by omega)
  exact ⟨4, key 3 0 rfl (fun u hu => by omega)⟩
theorem sv_lx_c {d d' e : Nat → Nat} (h : ∀ v, v < 3 → d v = d' v) : sv_lx d e = sv_lx d' e := by
  unfold sv_lx
  rw [h 0 (by omega), h 1 (by omega), h 2 (by omega)]
/-- one choice is made -/
theorem sv_cd0 (fr : Nat → Bool) (c : Nat) : sv_cd fr c 0 = sv_r0 fr c % 15 := rfl
theorem sv_cd1 (fr : Nat → Bool) (c : Nat) : sv_cd fr c 1 = sv_r1 fr c % 15 := rfl
theorem sv_cd2 (fr : Nat → Bool) (c : Nat) : sv_cd fr c 2 = c % 15 := rfl
/-- one step of the digits' loop: from place v, the rest r, to r' -/
theorem sv_x49s {post : SX → Prop} {J34 : sv_JT} {x2 x3 : Int32} {fm v r r' n : Nat} (hfm : fm < 8) (hv : v < 3) (hr : r < 3375) (hf : fm.testBit v = fr v) (er : r' = if fr v = true then r / 15 else r)
    (K : ∀ th', (∀ j, j ≠ 18 + v → th' j = th j) → th' (18 + v) = (if fr v = true then nI (r % 15) else th (18 + v)) → wX_tryAll_49 post J34 (nI fm) x2 x3 rf rg oc kn ct n (nI r') (nI v + (-1)) ab cs vs tk sz od ow wh lf rt jo ta tb th' cn al fo ts) :
    wX_tryAll_49 post J34 (nI fm) x2 x3 rf rg oc kn ct (n + 1) (nI r) (nI v) ab cs vs tk sz od ow wh lf rt jo ta tb th cn al fo ts := by
  refine br_f (nI_pos (by omega)) ?_
  cases hb : fr v with
  | false =>
    rw [hb] at hf er K
    rw [if_neg (by decide)] at er
    subst er
    refine br_t ((sv_tb0 (by omega) (by omega)).mpr hf) (nm_e ?_)
    exact K th (fun _ _ => rfl) (if_neg (by decide)).symm
  | true =>
    rw [hb] at hf er K
    rw [if_pos rfl] at er
    have e15 : nI r / 15 = nI (r / 15) := pk_div (d := 15) (by omega) (by decide) (by decide)
    have m15 : nI r - nI r / 15 * 15 = nI (r % 15) := pk_rem (d := 15) (by omega) (by decide) (by decide)
    have e18 : 18 + nI v = nI (18 + v) := nI_add 18 v
    refine br_f (by rw [sv_tb0 (by omega) (by omega), hf]; decide) (And.intro (by decide) ?_)
    rw [m15, e15, e18, sv_n2 (by omega), nI_clamp (by omega)]
    refine And.intro (vp_in_nI (by omega) (by decide)) (nm_e (And.intro (by decide) (nm_e (nm_e ?_))))
    rw [er] at K
    exact K _ (fun j hj => pk_un hj) (by rw [pk_us, if_pos rfl])
theorem sv_x49 {post : SX → Prop} {J34 : sv_JT} {x2 : Int32} {fm c : Nat} (hfm : fm < 8) (hc3 : c < 3375) (hf : ∀ v, v < 3 → fm.testBit v = fr v) (hr : sv_hr th (fun _ => 0))
    (K : ∀ th', sv_hr th' (sv_H0 fr c) → wpX_check (fun u => match u with | (rf1, rg1, oc1, kn1, ct1, ab1, cs1, vs1, tk1, sz1, od1, ow1, wh1, lf1, rt1, jo1, ta1, tb1, th1, cn1, al1, fo1, ts1) => ∀ x3_52 : Int32, x3_52 = nI c + 1 → J34 x3_52 rf1 rg1 oc1 kn1 ct1 ab1 cs1 vs1 tk1 sz1 od1 ow1 wh1 lf1 rt1 jo1 ta1 tb1 th1 cn1 al1 fo1 ts1) (rf, rg, oc, kn, ct, ab, cs, vs, tk, sz, od, ow, wh, lf, rt, jo, ta, tb, th', cn, al, fo, ts)) :
    wX_tryAll_49 post J34 (nI fm) x2 (nI c) rf rg oc kn ct 4 (nI c) 2 ab cs vs tk sz od ow wh lf rt jo ta tb th cn al fo ts := by
  have l1 : sv_r1 fr c ≤ c := by unfold sv_r1; split <;> omega
  have l0 : sv_r0 fr c ≤ c := by unfold sv_r0; split <;> omega
  refine sv_x49s (v := 2) (r := c) (r' := sv_r1 fr c) hfm (by omega) hc3 (hf 2 (by omega)) rfl ?_
  intro th2 o2 e2
  refine sv_x49s (v := 1) (r := sv_r1 fr c) (r' := sv_r0 fr c) hfm (by omega) (by omega) (hf 1 (by omega)) rfl ?_
  intro th1 o1 e1
  refine sv_x49s (v := 0) (r := sv_r0 fr c) (r' := if fr 0 = true then sv_r0 fr c / 15 else sv_r0 fr c) hfm (by omega) (by omega) (hf 0 (by omega)) rfl ?_
  intro th0 o0 e0
  refine br_t (by decide) (K th0 ?_)
  have val : ∀ v, v < 3 → ∀ x : Int32, x = (if fr v = true then nI (sv_cd fr c v) else -2) → x = sv_tI (sv_H0 fr c (18 + v)) := by
    intro v hv x hx
    rw [hx]
    unfold sv_H0
    rw [Nat.add_sub_cancel_left]
    cases hb : fr v with
    | true =>
      rw [if_pos rfl, if_pos ⟨⟨by omega, by omega⟩, rfl⟩, sv_tI_v (by omega), Nat.add_sub_cancel]
    | false =>
      rw [if_neg (by decide), if_neg (fun z => by exact absurd z.2 (by decide))]
      rfl
  have b0 : ∀ n, n < 21 → th n = -2 := hr
  intro n hn
  rcases Nat.lt_or_ge n 18 with z | z
  · rw [o0 n (by omega), o1 n (by omega), o2 n (by omega), b0 n hn]
    unfold sv_H0
    rw [if_neg (fun q => by omega)]
    rfl
  · obtain ⟨v, rfl⟩ : ∃ v, n = 18 + v := ⟨n - 18, by omega⟩
    have v3 : v < 3 := by omega
    refine val v v3 _ ?_
    rcases v with _ | _ | _ | v
    · rw [e0, o1 _ (by omega), o2 _ (by omega), b0 _ (by omega), sv_cd0]
    · rw [o0 _ (by omega), e1, o2 _ (by omega), b0 _ (by omega), sv_cd1]
    · rw [o0 _ (by omega), o1 _ (by omega), e2, b0 _ (by omega), sv_cd2]
    · omega
theorem sv_xt34 {post : SX → Prop} {fm : Nat} (hS : ∀ j, S j ≤ 9) (hV : ∀ j, V j < 4) (hm : ∀ t, m t < 16) (hts : ∀ t, t < 15 → ts t = nI (m t))
    (hc : sv_CM T S) (hu : sv_UF T S J) (hg : sv_GR T S wh lf rt) (hj : sv_jr S J jo) (hfJ : sv_frJ J fr) (hfm : fm < 8) (hf : ∀ v, v < 3 → fm.testBit v = fr v)
    (K : ∀ ct' th' cn' al' fo', sv_KN (sv_sol m V T S) ct' cn' al' fo' → post (rf, rg, oc, kn, ct', ab, cs, sv_nF V, tk, sv_nF S, od, ow, wh, lf, rt, jo, ta, tb, th', cn', al', fo', ts)) :
    ∀ k c ct th cn al fo, c + k = sv_last fr → sv_KN (fun w => sv_sol m V T S w && decide (sv_psi fr w < c)) ct cn al fo →
      wX_tryAll_34 post (nI fm) (nI (sv_last fr)) (k + 1) (nI c) rf rg oc kn ct ab cs (sv_nF V) tk (sv_nF S) od ow wh lf rt jo ta tb th cn al fo ts := by
  have ll := sv_last_le fr
  intro k
  induction k with
  | zero =>
    intro c ct th cn al fo hk hK
    have e : c = sv_last fr := by omega
    subst e
    refine br_t (Int32.le_refl _) (K ct th cn al fo (sv_KN_c ?_ hK))
    intro w hw
    rw [decide_eq_true (sv_psi_lt hw), Bool.and_true]
  | succ k ih =>
    intro c ct th cn al fo hk hK
    refine br_f (nI_ge (by omega) (by omega)) ?_
    refine sv_xclear ?_
    intro th1 hr1
    refine ⟨4, sv_x49 hfm (by omega) hf hr1 ?_⟩
    intro th2 hr2
    have ect := hK.1
    have nle := sv_ct_le (fun w => sv_sol m V T S w && decide (sv_psi fr w < c)) 3375
    -- the first one so far
    have hex : ∃ w1, w1 < 3375 ∧ (0 < sv_ct (fun w => sv_sol m V T S w && decide (sv_psi fr w < c)) 3375 → (sv_sol m V T S w1 && decide (sv_psi fr w1 < c)) = true ∧ ∀ x, x < w1 → (sv_sol m V T S x && decide (sv_psi fr x < c)) = false) := by
      rcases Nat.eq_zero_or_pos (sv_ct (fun w => sv_sol m V T S w && decide (sv_psi fr w < c)) 3375) with z | z
      · exact ⟨0, by omega, fun q => by omega⟩
      · obtain ⟨w1, h1, h2, h3⟩ := sv_least (sv_ct_ex z)
        exact ⟨w1, h1, fun _ => ⟨h2, h3⟩⟩
    obtain ⟨w1, hw1, hf1⟩ := hex
    have hfo : 0 < sv_ct (fun w => sv_sol m V T S w && decide (sv_psi fr w < c)) 3375 → ∀ v, v < 3 → fo v = nI (sv_dg v w1) := fun z v hv3 => hK.2.2.2 w1 hw1 (hf1 z).1 (hf1 z).2 v hv3
    rw [ect]
    refine sv_xcheck (e := fun v => sv_dg v w1) hS hV hm hts hc hu.1 hg hj hr2 nle hfo (fun v _ => sv_dg_lt hw1 v) ?_ ?_
    · intro hna th'
      refine nm_r (nI_1 c) (ih (c + 1) _ th' cn al fo (by omega) ?_)
      rw [← ect]
      refine sv_KN_c ?_ hK
      intro w hw
      cases hs : sv_sol m V T S w with
      | false => rfl
      | true =>
        have ne : sv_psi fr w ≠ c := by
          intro hp
          refine hna fun v hv3 => ?_
          have e2 := sv_acc_2 hc hu hfJ (by omega) hw hs hp v hv3
          rw [e2, Nat.add_sub_cancel]
          exact ⟨by omega, (sv_sol_i.mp hs).1 v hv3⟩
        have : decide (sv_psi fr w < c) = decide (sv_psi fr w < c + 1) := by
          apply sv_beq
          rw [decide_eq_true_iff, decide_eq_true_iff]
          omega
        rw [this]
    · intro ha th' cn' al' fo' hsp
      refine nm_r (nI_1 c) (ih (c + 1) _ th' cn' al' fo' (by omega) ?_)
      rw [← nI_1, ← ect]
      obtain ⟨w0, hw0, hd0, hs0, hp0⟩ := sv_acc_1 hc hu hfJ (by omega) ha
      have ed : ∀ v, v < 3 → sv_Hf T S J fr c (18 + v) - 2 = sv_dg v w0 := by
        intro v hv3
        rw [hd0 v hv3, Nat.add_sub_cancel]
      obtain ⟨s1, s2, s3, _, _, _⟩ := hsp
      have q0 : (sv_sol m V T S w0 && decide (sv_psi fr w0 < c)) = false := by
        rw [hp0, decide_eq_false (by omega), Bool.and_false]
      refine sv_KN_s (w0 := w0) (bt := decide (sv_ct (fun w => sv_sol m V T S w && decide (sv_psi fr w < c)) 3375 = 0) || sv_lx (fun v => sv_Hf T S J fr c (18 + v) - 2) (fun v => sv_dg v w1)) hw0 q0 ?_ ?_ hK ?_ ?_ ?_ ?_
      · show (sv_sol m V T S w0 && decide (sv_psi fr w0 < c + 1)) = true
        rw [hs0, hp0, decide_eq_true (by omega)]
        rfl
      · intro w hw hne
        show (sv_sol m V T S w && decide (sv_psi fr w < c + 1)) = (sv_sol m V T S w && decide (sv_psi fr w < c))
        cases hs : sv_sol m V T S w with
        | false => rfl
        | true =>
          have ne : sv_psi fr w ≠ c := by
            intro hp
            apply hne
            have e2 := sv_acc_2 hc hu hfJ (by omega) hw hs hp
            have a0 := e2 0 (by omega)
            have a1 := e2 1 (by omega)
            have a2 := e2 2 (by omega)
            rw [hd0 0 (by omega)] at a0
            rw [hd0 1 (by omega)] at a1
            rw [hd0 2 (by omega)] at a2
            rw [sv_dg0, sv_dg0] at a0
            rw [sv_dg1, sv_dg1] at a1
            rw [sv_dg2, sv_dg2] at a2
            omega
          have : decide (sv_psi fr w < c + 1) = decide (sv_psi fr w < c) := by
            apply sv_beq
            rw [decide_eq_true_iff, decide_eq_true_iff]
            omega
          rw [this]
      · intro v t hv3 ht
        have := s1 v t hv3 ht
        rw [this]
        show (if sv_Hf T S J fr c (18 + v) - 2 = t then _ else _) = _
        rw [ed v hv3]
      · intro v u hv3 hu3
        have := s2 v u hv3 hu3
        rw [this]
        show (if sv_Hf T S J fr c (18 + v) - 2 = sv_Hf T S J fr c (18 + u) - 2 then _ else _) = _
        rw [ed v hv3, ed u hu3]
      · intro v hv3
        have := s3 v hv3
        rw [this]
        show (if _ then nI (sv_Hf T S J fr c (18 + v) - 2) else _) = _
        rw [ed v hv3]
      · have elx : sv_lx (fun v => sv_Hf T S J fr c (18 + v) - 2) (fun v => sv_dg v w1) = sv_lx (fun v => sv_dg v w0) (fun v => sv_dg v w1) := by
          exact sv_lx_c ed
        rw [elx, Bool.or_eq_true, decide_eq_true_iff, sv_lx_i hw0 hw1]
        constructor
        · rintro (h0 | h0)
          · intro w hw
            cases hq : (sv_sol m V T S w && decide (sv_psi fr w < c)) with
            | false => rfl
            | true =>
              have := sv_ct_pos (p := fun w => sv_sol m V T S w && decide (sv_psi fr w < c)) (a := w) hq (n := 3375) (by omega)
              omega
          · intro w hw
            rcases Nat.eq_zero_or_pos (sv_ct (fun w => sv_sol m V T S w && decide (sv_psi fr w < c)) 3375) with z | z
            · cases hq : (sv_sol m V T S w && decide (sv_psi fr w < c)) with
              | false => rfl
              | true =>
                have := sv_ct_pos (p := fun w => sv_sol m V T S w && decide (sv_psi fr w < c)) (a := w) hq (n := 3375) (by omega)
                omega
            · exact (hf1 z).2 w (by omega)
        · intro hall
          rcases Nat.eq_zero_or_pos (sv_ct (fun w => sv_sol m V T S w && decide (sv_psi fr w < c)) 3375) with z | z
          · exact Or.inl z
          · refine Or.inr ?_
            rcases Nat.lt_trichotomy w0 w1 with y | y | y
            · exact y
            · exfalso
              have := (hf1 z).1
              rw [← y, q0] at this
              exact absurd this (by decide)
            · exfalso
              have h1 := (hf1 z).1
              have h2 : (sv_sol m V T S w1 && decide (sv_psi fr w1 < c)) = false := hall w1 y
              rw [h2] at h1
              exact absurd h1 (by decide)
end
end
section
/-! the component: tryAll, solve -/
section
variable {rf oc kn ct : Int32} {rg : Int64} {ab cs vs tk sz od ow wh lf rt jo ta tb th cn al fo ts : Nat → Int32}
variable {T S V m : Nat → Nat} {J : Nat → Option Nat} {fr : Nat → Bool}
theorem sv_xt4s {post : SX → Prop} {fm v l n : Nat} (hfm : fm < 8) (hv : v < 3) (hf : fm.testBit v = fr v)
    (K : wX_tryAll_4 post (nI fm) rf rg oc kn ct ab cs vs tk sz od ow wh lf rt jo ta tb th cn al fo ts n (nI (l * sv_f1 (fr v))) (nI (v + 1))) : wX_tryAll_4 post (nI fm) rf rg oc kn ct ab cs vs tk sz od ow wh lf rt jo ta tb th cn al fo ts (n + 1) (nI l) (nI v) := by
  refine br_f (nI_ge (b := 3) hv (by decide)) ?_
  cases hb : fr v with
  | false =>
    rw [hb] at hf K
    exact br_t ((sv_tb0 (by omega) (by omega)).mpr hf) (nm_r (e' := nI (l * 1)) (pk_mul l 1) (nm_r (nI_1 v) K))
  | true =>
    rw [hb] at hf K
    exact br_f (by rw [sv_tb0 (by omega) (by omega), hf]; decide) (nm_r (e' := nI (l * 15)) (pk_mul l 15) (nm_r (nI_1 v) K))
theorem sv_xtry {post : SX → Prop} {fm : Nat} (hS : ∀ j, S j ≤ 9) (hV : ∀ j, V j < 4) (hm : ∀ t, m t < 16) (hts : ∀ t, t < 15 → ts t = nI (m t))
    (hc : sv_CM T S) (hu : sv_UF T S J) (hg : sv_GR T S wh lf rt) (hj : sv_jr S J jo) (hfJ : sv_frJ J fr) (hfm : fm < 8) (hf : ∀ v, v < 3 → fm.testBit v = fr v)
    (hK : sv_KN (fun _ => false) ct cn al fo)
    (K : ∀ ct' th' cn' al' fo', sv_KN (sv_sol m V T S) ct' cn' al' fo' → post (rf, rg, oc, kn, ct', ab, cs, sv_nF V, tk, sv_nF S, od, ow, wh, lf, rt, jo, ta, tb, th', cn', al', fo', ts)) : wpX_tryAll post (rf, rg, oc, kn, ct, ab, cs, sv_nF V, tk, sv_nF S, od, ow, wh, lf, rt, jo, ta, tb, th, cn, al, fo, ts) (nI fm) := by
  refine ⟨4, ?_⟩
  refine sv_xt4s (l := 1) (v := 0) hfm (by omega) (hf 0 (by omega)) ?_
  refine sv_xt4s (v := 1) hfm (by omega) (hf 1 (by omega)) ?_
  refine sv_xt4s (v := 2) hfm (by omega) (hf 2 (by omega)) ?_
  have e : 1 * sv_f1 (fr 0) * sv_f1 (fr 1) * sv_f1 (fr 2) = sv_last fr := by
    unfold sv_last
    rw [Nat.one_mul]
  rw [e]
  refine br_t (Int32.le_refl _) ⟨_, sv_xt34 hS hV hm hts hc hu hg hj hfJ hfm hf K (sv_last fr) 0 ct th cn al fo (Nat.zero_add _) (sv_KN_c ?_ hK)⟩
  intro w _
  rw [decide_eq_false (by omega), Bool.and_false]
end
section
variable {rf oc kn ct : Int32} {rg : Int64} {ab cs vs tk sz od ow wh lf rt jo ta tb th cn al fo ts : Nat → Int32}
variable {T S V C : Nat → Nat} {U F G : Nat → Bool}
theorem sv_fd_free {T S : Nat → Nat} {J : Nat → Option Nat} (hv : sv_V T S J) {v : Nat} (h3 : v < 3) : sv_fd T J (18 + v) = 18 + v ↔ J (18 + v) = none := by
  constructor
  · intro h
    have := sv_fd_r hv (sv_us18 (S := S) h3)
    rw [h] at this
    exact this.1
  · intro h
    exact sv_fd_id ⟨h, fun z => by omega⟩
/-- both sides complete: to the end -/
theorem sv_xs81 {post : SX → Prop} {RF RG : Nat} (hRF : RF < 65536) (hRG : RG < 2 ^ 64) (hF : ∀ i, i < 16 → RF.testBit i = F i) (hG : ∀ i, i < 64 → RG.testBit i = G i) (hA : ∀ a, a < 4 → ab a = nI (sv_YS U a)) (hC : ∀ j, C j < 4)
    (hS : ∀ j, S j ≤ 9) (hV : ∀ j, V j < 4) (hc : sv_CM T S) (hg : sv_GR T S wh lf rt) (hj : ∀ n, sv_us S n → n < 18 → jo n = -1) (hK : sv_KN (fun _ => false) ct cn al fo)
    (K : ∀ ct' wh' ta' tb' jo' th' cn' al' fo' ts', sv_KN (sv_sol (sv_SO U C F G) V T S) ct' cn' al' fo' →
      post (nI RF, lN RG, oc, kn, ct', ab, sv_nF C, sv_nF V, tk, sv_nF S, od, ow, wh', lf, rt, jo', ta', tb', th', cn', al', fo', ts')) :
    wX_solve_81 post 1 (nI RF) (lN RG) oc kn ct ab (sv_nF C) (sv_nF V) tk (sv_nF S) od ow wh lf rt jo ta tb th cn al fo ts := by
  refine br_f (by decide) ?_
  refine sv_xjoin hc hg hj ?_ ?_
  · intro J wh' ta' tb' jo' hu hg' hj'
    refine br_f (by decide) ?_
    refine sv_xT hRF hRG hF hG hA hC ?_
    intro ts' hts
    have hfJ : sv_frJ J (fun v => (J (18 + v)).isNone) := by
      intro v hv
      show (J (18 + v)).isNone = true ↔ _
      exact Option.isNone_iff_eq_none
    have key : ∀ k v, v + k = 3 → wX_solve_102 post (nI RF) (lN RG) oc kn ct ab (sv_nF C) (sv_nF V) tk (sv_nF S) od ow wh' lf rt jo' ta' tb' th cn al fo ts' (k + 1) (nI (sv_O (fun v => (J (18 + v)).isNone) (fun v => 2 ^ v) v)) (nI v) := by
      intro k
      induction k with
      | zero =>
        intro v hv
        have e : v = 3 := by omega
        subst e
        refine br_t (Int32.le_refl _) ?_
        refine sv_xtry (fr := fun v => (J (18 + v)).isNone) hS hV (sv_SO_lt hC) hts hc hu hg' hj' hfJ ?_ ?_ hK ?_
        · show _ < 2 ^ 3
          apply Nat.lt_pow_two_of_testBit
          intro j hj3
          cases h : (sv_O (fun v => (J (18 + v)).isNone) (fun v => 2 ^ v) 3).testBit j with
          | false => rfl
          | true =>
            obtain ⟨i, hi, _, hb⟩ := sv_O_b.mp h
            rw [Nat.testBit_two_pow] at hb
            have := of_decide_eq_true hb
            omega
        · intro v hv
          apply sv_beq
          rw [sv_O_b]
          constructor
          · rintro ⟨i, hi, hp, hb⟩
            rw [Nat.testBit_two_pow] at hb
            have e : i = v := of_decide_eq_true hb
            subst e
            exact hp
          · intro h
            exact ⟨v, hv, h, Nat.testBit_two_pow_self⟩
        · intro ct' th' cn' al' fo' hk
          exact K ct' wh' ta' tb' jo' th' cn' al' fo' ts' hk
      | succ k ih =>
        intro v hv
        have v3 : v < 3 := by omega
        have i' := ih (v + 1) (by omega)
        have e18 : 18 + nI v = nI (18 + v) := nI_add 18 v
        have r21 := sv_us_lt hc (sv_us_fd hc hu.1 (sv_us18 (S := S) v3))
        have ff := sv_fd_free hu.1 v3
        refine br_f (nI_ge (b := 3) v3 (by decide)) ?_
        rw [e18]
        refine sv_xfind hc hu.1 hg' hj' (sv_us18 v3) ?_
        refine pk_eq _ (18 + v) (fun z => ?_) (fun z => nm_r (nI_1 v) ?_) rfl rfl (by omega) (by omega)
        · rw [sv_shl1 (by omega), sv_or]
          refine nm_e (nm_r (nI_1 v) ?_)
          rw [sv_O_t (by rw [ff.mp z]; rfl)] at i'
          exact i'
        · have : (J (18 + v)).isNone = false := by
            cases h : J (18 + v) with
            | none => exact absurd (ff.mpr h) z
            | some _ => rfl
          rw [sv_O_f (p := fun v => (J (18 + v)).isNone) this] at i'
          exact i'
    exact ⟨4, key 3 0 rfl⟩
  · intro hno wh' ta' tb' jo'
    refine br_t rfl (K ct wh' ta' tb' jo' th cn al fo ts (sv_KN_c ?_ hK))
    intro w _
    cases h : sv_sol (sv_SO U C F G) V T S w with
    | false => rfl
    | true =>
      have := (sv_sol_i.mp h).2
      rw [← sv_W_0 hc, ← sv_W_9 hc] at this
      exact absurd this (hno _)
/-- the two readings together -/
theorem sv_GR2 {T S : Nat → Nat} {wh0 jo0 lf0 rt0 wh1 jo1 lf1 rt1 wh2 jo2 lf2 rt2 : Nat → Int32} (hS : ∀ j, S j ≤ 9) (d1 : sv_RD T (9 * 0) (S 0) wh0 jo0 lf0 rt0 wh1 jo1 lf1 rt1) (k1 : sv_kd T (9 * 0) (S 0) lf1 rt1)
    (d2 : sv_RD T (9 * 1) (S 1) wh1 jo1 lf1 rt1 wh2 jo2 lf2 rt2) (k2 : sv_kd T (9 * 1) (S 1) lf2 rt2) : sv_GR T S wh2 lf2 rt2 ∧ ∀ n, sv_us S n → n < 18 → jo2 n = -1 := by
  have s0 := hS 0
  have s1 := hS 1
  have both : ∀ n, sv_us S n → n < 18 → (wh2 n = nI (T n) ∧ (T n < 2 → lf2 n = nI (n + 1)) ∧ (T n = 1 → rt2 n = nI (sv_R T n))) ∧ jo2 n = -1 := by
    intro n hn h18
    rcases hn with z | z | z
    · obtain ⟨a1, a2⟩ := d1.1 n z
      have b := k1 n z
      rw [Nat.mul_zero, Nat.zero_add] at a1 a2 b
      obtain ⟨c1, c2, c3, c4⟩ := d2.2 n (by omega)
      refine ⟨⟨c1.trans a1, fun t => ?_, fun t => ?_⟩, c2.trans a2⟩
      · rw [c3]; exact (b t).1
      · rw [c4]; exact (b (by omega)).2 t
    · obtain ⟨a1, a2⟩ := d2.1 (n - 9) (by omega)
      have b := k2 (n - 9) (by omega)
      have e : 9 * 1 + (n - 9) = n := by omega
      rw [e] at a1 a2 b
      exact ⟨⟨a1, fun t => (b t).1, fun t => (b (by omega)).2 t⟩, a2⟩
    · omega
  exact ⟨fun n hn h18 => (both n hn h18).1, fun n hn h18 => (both n hn h18).2⟩
theorem sv_xsolve {post : SX → Prop} {RF RG : Nat} (hRF : RF < 65536) (hRG : RG < 2 ^ 64) (hF : ∀ i, i < 16 → RF.testBit i = F i) (hG : ∀ i, i < 64 → RG.testBit i = G i) (hA : ∀ a, a < 4 → ab a = nI (sv_YS U a)) (hC : ∀ j, C j < 4)
    (hS : ∀ j, S j ≤ 9) (hT : ∀ j, T j < 8) (hV : ∀ j, V j < 4) (hp : ∀ b, b < 2 → ∀ m, m < S b → 0 < sv_pn T (9 * b) m)
    (hkn : kn = 0 ∨ (kn = 1 ∧ sv_KN (sv_Q (sv_SO U C F G) V T S) ct cn al fo))
    (K : ∀ oc' ct' od' ow' wh' lf' rt' jo' ta' tb' th' cn' al' fo' ts', sv_KN (sv_Q (sv_SO U C F G) V T S) ct' cn' al' fo' →
      post (nI RF, lN RG, oc', 1, ct', ab, sv_nF C, sv_nF V, sv_nF T, sv_nF S, od', ow', wh', lf', rt', jo', ta', tb', th', cn', al', fo', ts')) :
    wpX_solve post (nI RF, lN RG, oc, kn, ct, ab, sv_nF C, sv_nF V, sv_nF T, sv_nF S, od, ow, wh, lf, rt, jo, ta, tb, th, cn, al, fo, ts) := by
  rcases hkn with z | ⟨z, hk⟩
  · subst z
    refine br_t rfl ?_
    have k41 : ∀ cn, (∀ j, j < 45 → cn j = 0) → ∀ k n al, n + k = 9 → (∀ j, j < n → al j = 0) → wX_solve_41 post (nI RF) (lN RG) oc 1 0 (k + 1) (nI n) ab (sv_nF C) (sv_nF V) (sv_nF T) (sv_nF S) od ow wh lf rt jo ta tb th cn al fo ts := by
      intro cn hcn k
      induction k with
      | zero =>
        intro n al hn hal
        have e : n = 9 := by omega
        subst e
        have h0 : ∀ fo, sv_KN (fun _ => false) 0 cn al fo := fun fo => sv_KN_0 hcn hal
        refine br_t (Int32.le_refl _) ?_
        refine sv_xcm (b := 0) (by omega) hS hT (hp 0 (by omega)) ?_
        intro oc1 od1 ow1 wh1 lf1 rt1 jo1 d1 kd1
        cases c0 : sv_cm T S 0 with
        | false =>
          refine br_t rfl (br_t rfl ?_)
          refine K _ _ _ _ _ _ _ _ _ _ _ _ _ _ _ (sv_KN_c ?_ (h0 fo))
          intro w _
          unfold sv_Q
          rw [c0]
          rfl
        | true =>
          refine br_f (by decide) ?_
          refine sv_xcm (b := 1) (by omega) hS hT (hp 1 (by omega)) ?_
          intro oc2 od2 ow2 wh2 lf2 rt2 jo2 d2 kd2
          cases c1 : sv_cm T S 1 with
          | false =>
            refine br_t rfl (br_t rfl ?_)
            refine K _ _ _ _ _ _ _ _ _ _ _ _ _ _ _ (sv_KN_c ?_ (h0 fo))
            intro w _
            unfold sv_Q
            rw [c1, Bool.and_false]
            rfl
          | true =>
            refine br_f (by decide) ?_
            have hc : sv_CM T S := ⟨hS 0, hS 1, ⟨of_decide_eq_true c0, hp 0 (by omega)⟩, ⟨of_decide_eq_true c1, hp 1 (by omega)⟩, hT⟩
            obtain ⟨hg, hj⟩ := sv_GR2 hS d1 (kd1 c0) d2 (kd2 c1)
            refine sv_xs81 hRF hRG hF hG hA hC hS hV hc hg hj (h0 fo) ?_
            intro ct' wh' ta' tb' jo' th' cn' al' fo' ts' hk
            refine K _ _ _ _ _ _ _ _ _ _ _ _ _ _ _ (sv_KN_c ?_ hk)
            intro w _
            unfold sv_Q
            rw [c0, c1]
            rfl
      | succ k ih =>
        intro n al hn hal
        refine br_f (nI_ge (b := 9) (by omega) (by decide)) (And.intro (vp_in_nI (by omega) (by decide)) (nm_e (nm_r (nI_1 n) (ih (n + 1) _ (by omega) ?_))))
        intro j hj
        rw [nI_clamp (by omega)]
        by_cases e : j = n
        · rw [e, pk_us]
        · rw [pk_un e]
          exact hal j (by omega)
    have k20 : ∀ k n cn, n + k = 45 → (∀ j, j < n → cn j = 0) → wX_solve_20 post (nI RF) (lN RG) oc 1 0 (k + 1) (nI n) ab (sv_nF C) (sv_nF V) (sv_nF T) (sv_nF S) od ow wh lf rt jo ta tb th cn al fo ts := by
      intro k
      induction k with
      | zero =>
        intro n cn hn hcn
        have e : n = 45 := by omega
        subst e
        exact br_t (Int32.le_refl _) ⟨10, k41 cn hcn 9 0 al rfl (fun j hj => by omega)⟩
      | succ k ih =>
        intro n cn hn hcn
        refine br_f (nI_ge (b := 45) (by omega) (by decide)) (And.intro (vp_in_nI (by omega) (by decide)) (nm_e (nm_r (nI_1 n) (ih (n + 1) _ (by omega) ?_))))
        intro j hj
        rw [nI_clamp (by omega)]
        by_cases e : j = n
        · rw [e, pk_us]
        · rw [pk_un e]
          exact hcn j (by omega)
    exact ⟨46, k20 45 0 cn rfl (fun j hj => by omega)⟩
  · subst z
    exact br_f (by decide) (K _ _ _ _ _ _ _ _ _ _ _ _ _ _ _ hk)
end
end
section
/-! the relation -/
def sv_IV (RF RG : Nat) (kn ct : Int32) (ab : Nat → Int32) (C V T S : Nat → Nat) (cn al fo : Nat → Int32) (U F G : Nat → Bool) : Prop :=
  RF < 65536 ∧ RG < 2 ^ 64 ∧ (∀ i, i < 16 → RF.testBit i = F i) ∧ (∀ i, i < 64 → RG.testBit i = G i) ∧ (∀ a, a < 4 → ab a = nI (sv_YS U a)) ∧ (∀ j, C j < 4) ∧ (∀ j, V j < 4) ∧ (∀ j, T j < 8) ∧ (∀ j, S j ≤ 9) ∧
  (∀ b, b < 2 → ∀ m, m < S b → 0 < sv_pn T (9 * b) m) ∧ (kn = 0 ∨ (kn = 1 ∧ sv_KN (sv_Q (sv_SO U C F G) V T S) ct cn al fo))
def i_Rel (_ : Nat) (u : SX) (v : SY) : Prop :=
  ∃ RF : Nat, ∃ RG : Nat, ∃ oc : Int32, ∃ kn : Int32, ∃ ct : Int32, ∃ ab : Nat → Int32, ∃ C : Nat → Nat, ∃ V : Nat → Nat, ∃ T : Nat → Nat, ∃ S : Nat → Nat, ∃ od : Nat → Int32, ∃ ow : Nat → Int32, ∃ wh : Nat → Int32, ∃ lf : Nat → Int32, ∃ rt : Nat → Int32, ∃ jo : Nat → Int32, ∃ ta : Nat → Int32, ∃ tb : Nat → Int32, ∃ th : Nat → Int32, ∃ cn : Nat → Int32, ∃ al : Nat → Int32, ∃ fo : Nat → Int32, ∃ ts : Nat → Int32, ∃ U : Nat → Bool, ∃ F : Nat → Bool, ∃ G : Nat → Bool, ∃ my : Nat → Int32, ∃ tg : Nat → Int32, ∃ wd : Nat → Int32, sv_IV RF RG kn ct ab C V T S cn al fo U F G ∧ u = (nI RF, lN RG, oc, kn, ct, ab, sv_nF C, sv_nF V, sv_nF T, sv_nF S, od, ow, wh, lf, rt, jo, ta, tb, th, cn, al, fo, ts) ∧ v = (sv_bF U, sv_nF C, sv_bF F, sv_bF G, sv_nF V, sv_nF S, sv_nF T, my, tg, wd)
theorem sv_el {k : Nat} {u : SX} {v : SY} {P : SX → SY → Prop} (h : ∀ (RF : Nat) (RG : Nat) (oc : Int32) (kn : Int32) (ct : Int32) (ab : Nat → Int32) (C : Nat → Nat) (V : Nat → Nat) (T : Nat → Nat) (S : Nat → Nat) (od : Nat → Int32) (ow : Nat → Int32) (wh : Nat → Int32) (lf : Nat → Int32) (rt : Nat → Int32) (jo : Nat → Int32) (ta : Nat → Int32) (tb : Nat → Int32) (th : Nat → Int32) (cn : Nat → Int32) (al : Nat → Int32) (fo : Nat → Int32) (ts : Nat → Int32) (U : Nat → Bool) (F : Nat → Bool) (G : Nat → Bool) (my : Nat → Int32) (tg : Nat → Int32) (wd : Nat → Int32), sv_IV RF RG kn ct ab C V T S cn al fo U F G → P (nI RF, lN RG, oc, kn, ct, ab, sv_nF C, sv_nF V, sv_nF T, sv_nF S, od, ow, wh, lf, rt, jo, ta, tb, th, cn, al, fo, ts) (sv_bF U, sv_nF C, sv_bF F, sv_bF G, sv_nF V, sv_nF S, sv_nF T, my, tg, wd)) (I : i_Rel k u v) : P u v :=
  Exists.elim I fun RF q0 => Exists.elim q0 fun RG q1 => Exists.elim q1 fun oc q2 => Exists.elim q2 fun kn q3 => Exists.elim q3 fun ct q4 => Exists.elim q4 fun ab q5 => Exists.elim q5 fun C q6 => Exists.elim q6 fun V q7 => Exists.elim q7 fun T q8 => Exists.elim q8 fun S q9 => Exists.elim q9 fun od q10 => Exists.elim q10 fun ow q11 => Exists.elim q11 fun wh q12 => Exists.elim q12 fun lf q13 => Exists.elim q13 fun rt q14 => Exists.elim q14 fun jo q15 => Exists.elim q15 fun ta q16 => Exists.elim q16 fun tb q17 => Exists.elim q17 fun th q18 => Exists.elim q18 fun cn q19 => Exists.elim q19 fun al q20 => Exists.elim q20 fun fo q21 => Exists.elim q21 fun ts q22 => Exists.elim q22 fun U q23 => Exists.elim q23 fun F q24 => Exists.elim q24 fun G q25 => Exists.elim q25 fun my q26 => Exists.elim q26 fun tg q27 => Exists.elim q27 fun wd q28 => by
    rw [q28.2.1, q28.2.2]
    exact h RF RG oc kn ct ab C V T S od ow wh lf rt jo ta tb th cn al fo ts U F G my tg wd q28.1
theorem sv_in {k : Nat} {RF : Nat} {RG : Nat} {oc : Int32} {kn : Int32} {ct : Int32} {ab : Nat → Int32} {C : Nat → Nat} {V : Nat → Nat} {T : Nat → Nat} {S : Nat → Nat} {od : Nat → Int32} {ow : Nat → Int32} {wh : Nat → Int32} {lf : Nat → Int32} {rt : Nat → Int32} {jo : Nat → Int32} {ta : Nat → Int32} {tb : Nat → Int32} {th : Nat → Int32} {cn : Nat → Int32} {al : Nat → Int32} {fo : Nat → Int32} {ts : Nat → Int32} {U : Nat → Bool} {F : Nat → Bool} {G : Nat → Bool} {my : Nat → Int32} {tg : Nat → Int32} {wd : Nat → Int32} (h : sv_IV RF RG kn ct ab C V T S cn al fo U F G) : i_Rel k (nI RF, lN RG, oc, kn, ct, ab, sv_nF C, sv_nF V, sv_nF T, sv_nF S, od, ow, wh, lf, rt, jo, ta, tb, th, cn, al, fo, ts) (sv_bF U, sv_nF C, sv_bF F, sv_bF G, sv_nF V, sv_nF S, sv_nF T, my, tg, wd) :=
  ⟨RF, ⟨RG, ⟨oc, ⟨kn, ⟨ct, ⟨ab, ⟨C, ⟨V, ⟨T, ⟨S, ⟨od, ⟨ow, ⟨wh, ⟨lf, ⟨rt, ⟨jo, ⟨ta, ⟨tb, ⟨th, ⟨cn, ⟨al, ⟨fo, ⟨ts, ⟨U, ⟨F, ⟨G, ⟨my, ⟨tg, ⟨wd, h, rfl, rfl⟩⟩⟩⟩⟩⟩⟩⟩⟩⟩⟩⟩⟩⟩⟩⟩⟩⟩⟩⟩⟩⟩⟩⟩⟩⟩⟩⟩⟩
theorem i_up {k : Nat} {u : SX} {v : SY} (h : i_Rel k u v) : i_Rel (k + 5) u v := h
theorem sv_YS0 : ∀ a, a < 4 → sv_YS (fun _ => false) a = 2 ^ a := by decide +kernel
theorem i_vc0 : wpX_init (fun u => wpY_init (fun v => i_Rel 0 u v)) := by
  have key : ∀ k s ab, s + k = 4 → (∀ j, j < s → ab j = nI (2 ^ j)) → wX_init_145 (fun u => wpY_init (fun v => i_Rel 0 u v)) 0 0 0 0 0 (k + 1) (nI s) ab (fun _ => 0) (fun _ => 0) (fun _ => 0) (fun _ => 0) (fun _ => 0) (fun _ => 0) (fun _ => 0) (fun _ => 0) (fun _ => 0) (fun _ => 0) (fun _ => 0) (fun _ => 0) (fun _ => 0) (fun _ => 0) (fun _ => 0) (fun _ => 0) (fun _ => 0) := by
    intro k
    induction k with
    | zero =>
      intro s ab hs h
      have e : s = 4 := by omega
      subst e
      refine br_t (Int32.le_refl _) ?_
      refine sv_in (k := 0) (RF := 0) (RG := 0) (C := fun _ => 0) (V := fun _ => 0) (T := fun _ => 0) (S := fun _ => 0) (U := fun _ => false) (F := fun _ => false) (G := fun _ => false) ?_
      refine ⟨by omega, by decide, fun i _ => Nat.zero_testBit i, fun i _ => Nat.zero_testBit i, fun a ha => ?_, fun _ => Nat.zero_lt_succ 3, fun _ => Nat.zero_lt_succ 3, fun _ => Nat.zero_lt_succ 7, fun _ => Nat.zero_le 9, fun b _ m hm => absurd hm (Nat.not_lt_zero m), Or.inl rfl⟩
      rw [sv_YS0 a ha]
      exact h a ha
    | succ k ih =>
      intro s ab hs h
      have p := sv_p4 s (by omega)
      refine br_f (nI_ge (b := 4) (by omega) (by decide)) (And.intro (vp_in_nI (by omega) (by decide)) ?_)
      rw [sv_shl1 (by omega), sv_n2 (by omega), nI_clamp (by omega)]
      refine nm_e (nm_r (nI_1 s) (ih (s + 1) _ (by omega) ?_))
      intro j hj
      by_cases e : j = s
      · rw [e, pk_us]
      · rw [pk_un e]
        exact h j (by omega)
  exact ⟨5, key 4 0 _ rfl (fun j hj => by omega)⟩
section
variable {rf oc kn ct : Int32} {rg : Int64} {ab cs vs tk sz od ow wh lf rt jo ta tb th cn al fo ts : Nat → Int32}
variable {un so ff gg wn zs tq my tg wd : Nat → Int32}
variable {RF RG k : Nat} {C V T S : Nat → Nat} {U F G : Nat → Bool}
theorem sv_IVk {kn' : Int32} (h : sv_IV RF RG kn ct ab C V T S cn al fo U F G) (hk : kn' = 0) : sv_IV RF RG kn' ct ab C V T S cn al fo U F G := by
  obtain ⟨a1, a2, a3, a4, a5, a6, a7, a8, a9, a10, _⟩ := h
  exact ⟨a1, a2, a3, a4, a5, a6, a7, a8, a9, a10, Or.inl hk⟩
theorem sv_vc_atMost (h : sv_IV RF RG kn ct ab C V T S cn al fo U F G) (v1 v2 : Int32) : wpX_atMost (fun r => wpY_atMost (fun r' => r' = r ∧ i_Rel (k + 5) (nI RF, lN RG, oc, kn, ct, ab, sv_nF C, sv_nF V, sv_nF T, sv_nF S, od, ow, wh, lf, rt, jo, ta, tb, th, cn, al, fo, ts) (sv_bF U, sv_nF C, sv_bF F, sv_bF G, sv_nF V, sv_nF S, sv_nF T, my, tg, wd)) (sv_bF U, sv_nF C, sv_bF F, sv_bF G, sv_nF V, sv_nF S, sv_nF T, my, tg, wd) v1 v2) (nI RF, lN RG, oc, kn, ct, ab, sv_nF C, sv_nF V, sv_nF T, sv_nF S, od, ow, wh, lf, rt, jo, ta, tb, th, cn, al, fo, ts) v1 v2 := by
  have hA := h.2.2.2.2.1
  unfold wpX_atMost
  rcases sv_io v1 (n := 4) (by decide) with z | ⟨a, ha, rfl⟩
  · refine sv_xsf z ?_
    exact br_t rfl (sv_yam_f (Or.inl z) ⟨rfl, sv_in h⟩)
  · refine sv_xst ha ?_
    refine br_f (by decide) ?_
    rcases sv_io v2 (n := 4) (by decide) with z | ⟨b, hb, rfl⟩
    · refine sv_xsf z ?_
      exact br_t rfl (sv_yam_f (Or.inr z) ⟨rfl, sv_in h⟩)
    · refine sv_xst hb ?_
      have l := sv_YS_lt (U := U) ha
      have e : ab (nI a).toNatClampNeg = nI (sv_YS U a) := by rw [nI_clamp (by omega)]; exact hA a ha
      refine br_f (by decide) (And.intro (vp_in_nI ha (by decide)) ?_)
      rw [e]
      cases q : (sv_YS U a).testBit b with
      | false =>
        refine br_t ((sv_tb0 (by omega) (by omega)).mpr q) (sv_yam ha hb ⟨?_, sv_in h⟩)
        rw [q]
        rfl
      | true =>
        refine br_f (by rw [sv_tb0 (by omega) (by omega), q]; decide) (sv_yam ha hb ⟨?_, sv_in h⟩)
        rw [q]
        rfl
theorem sv_vc_below (h : sv_IV RF RG kn ct ab C V T S cn al fo U F G) (v1 v2 : Int32) : wpX_below (fun r u' => wpY_below (fun r' v' => r' = r ∧ i_Rel (k + 5) u' v') (sv_bF U, sv_nF C, sv_bF F, sv_bF G, sv_nF V, sv_nF S, sv_nF T, my, tg, wd) v1 v2) (nI RF, lN RG, oc, kn, ct, ab, sv_nF C, sv_nF V, sv_nF T, sv_nF S, od, ow, wh, lf, rt, jo, ta, tb, th, cn, al, fo, ts) v1 v2 := by
  have hA := h.2.2.2.2.1
  have yf : (sv_out v1 4 ∨ sv_out v2 4) → wpY_below (fun r' v' => r' = 0 ∧ i_Rel (k + 5) (nI RF, lN RG, oc, kn, ct, ab, sv_nF C, sv_nF V, sv_nF T, sv_nF S, od, ow, wh, lf, rt, jo, ta, tb, th, cn, al, fo, ts) v') (sv_bF U, sv_nF C, sv_bF F, sv_bF G, sv_nF V, sv_nF S, sv_nF T, my, tg, wd) v1 v2 := by
    intro ho
    unfold wpY_below
    rcases sv_io v1 (n := 4) (by decide) with z | ⟨a, ha, rfl⟩
    · refine sv_ysf z ?_
      exact br_t rfl ⟨rfl, sv_in h⟩
    · refine sv_yst ha ?_
      refine br_f (by decide) ?_
      rcases ho with y | y
      · exfalso
        rcases y with y | y
        · exact nI_pos (by omega) y
        · exact nI_ge ha (by decide) y
      · refine sv_ysf y ?_
        exact br_t rfl ⟨rfl, sv_in h⟩
  unfold wpX_below
  rcases sv_io v1 (n := 4) (by decide) with z | ⟨a, ha, rfl⟩
  · refine sv_xsf z ?_
    exact br_t rfl (yf (Or.inl z))
  · refine sv_xst ha ?_
    refine br_f (by decide) ?_
    rcases sv_io v2 (n := 4) (by decide) with z | ⟨b, hb, rfl⟩
    · refine sv_xsf z ?_
      exact br_t rfl (yf (Or.inr z))
    · refine sv_xst hb ?_
      have l := sv_YS_lt (U := U) hb
      have e : ab (nI b).toNatClampNeg = nI (sv_YS U b) := by rw [nI_clamp (by omega)]; exact hA b hb
      refine br_f (by decide) (And.intro (vp_in_nI hb (by decide)) ?_)
      rw [e]
      cases q : (sv_YS U b).testBit a with
      | true =>
        refine br_f (by rw [sv_tb0 (by omega) (by omega), q]; decide) ?_
        unfold wpY_below
        refine sv_yst ha ?_
        refine br_f (by decide) ?_
        refine sv_yst hb ?_
        refine br_f (by decide) ?_
        refine sv_yam hb ha ?_
        rw [q]
        exact br_f (by decide) ⟨rfl, sv_in h⟩
      | false =>
        refine br_t ((sv_tb0 (by omega) (by omega)).mpr q) ?_
        have fin : ∀ ab', (∀ j, j < 4 → ab' j = nI (sv_YS (sv_ub U (4 * a + b) true) j)) → wpY_below (fun r' v' => r' = 1 ∧ i_Rel (k + 5) (nI RF, lN RG, oc, 0, ct, ab', sv_nF C, sv_nF V, sv_nF T, sv_nF S, od, ow, wh, lf, rt, jo, ta, tb, th, cn, al, fo, ts) v') (sv_bF U, sv_nF C, sv_bF F, sv_bF G, sv_nF V, sv_nF S, sv_nF T, my, tg, wd) (nI a) (nI b) := by
          intro ab' hab
          unfold wpY_below
          refine sv_yst ha ?_
          refine br_f (by decide) ?_
          refine sv_yst hb ?_
          refine br_f (by decide) ?_
          refine sv_yam hb ha ?_
          rw [q]
          have e4 : 4 * nI a + nI b = nI (4 * a + b) := by
            have : 4 * nI a = nI (4 * a) := pk_mul 4 a
            rw [this, nI_add]
          refine br_t rfl ?_
          rw [e4]
          refine And.intro (vp_in_nI (by omega) (by decide)) ?_
          rw [nI_clamp (by omega)]
          refine nm_r (e' := sv_bF (sv_ub U (4 * a + b) true)) (sv_updB U (4 * a + b) true) ⟨rfl, ?_⟩
          refine sv_in ?_
          obtain ⟨a1, a2, a3, a4, a5, a6, a7, a8, a9, a10, _⟩ := h
          exact ⟨a1, a2, a3, a4, hab, a6, a7, a8, a9, a10, Or.inl rfl⟩
        have key : ∀ n s ab', s + n = 4 → (∀ j, j < s → ab' j = nI (sv_YS (sv_ub U (4 * a + b) true) j)) → (∀ j, s ≤ j → j < 4 → ab' j = nI (sv_YS U j)) →
            wX_below_31 (fun r u' => wpY_below (fun r' v' => r' = r ∧ i_Rel (k + 5) u' v') (sv_bF U, sv_nF C, sv_bF F, sv_bF G, sv_nF V, sv_nF S, sv_nF T, my, tg, wd) (nI a) (nI b)) (nI a) (nI b) (nI RF) (lN RG) oc kn ct (n + 1) (nI s) ab' (sv_nF C) (sv_nF V) (sv_nF T) (sv_nF S) od ow wh lf rt jo ta tb th cn al fo ts := by
          intro n
          induction n with
          | zero =>
            intro s ab' hs h1 h2
            have e : s = 4 := by omega
            subst e
            exact br_t (Int32.le_refl _) (fin ab' h1)
          | succ n ih =>
            intro s ab' hs h1 h2
            have s4 : s < 4 := by omega
            have ls := sv_YS_lt (U := U) s4
            have es : ab' (nI s).toNatClampNeg = nI (sv_YS U s) := by rw [nI_clamp (by omega)]; exact h2 s (by omega) s4
            have eb : ab' (nI b).toNatClampNeg = nI (sv_YS U b) := by
              rw [nI_clamp (by omega)]
              rcases Nat.lt_or_ge b s with y | y
              · rw [h1 b y, sv_YS_up ha hb hb, if_neg (by rw [q]; decide)]
              · exact h2 b y hb
            have up := sv_YS_up (U := U) ha hb s4
            have hi : vp_in (nI s) 4 := vp_in_nI s4 (by decide)
            refine br_f (nI_ge (b := 4) s4 (by decide)) (And.intro hi ?_)
            rw [es, eb]
            cases w : (sv_YS U s).testBit a with
            | false =>
              rw [if_neg (by rw [w]; decide)] at up
              refine br_t ((sv_tb0 (by omega) (by omega)).mpr w) (nm_r (nI_1 s) (ih (s + 1) ab' (by omega) ?_ (fun j hj1 hj2 => h2 j (by omega) hj2)))
              intro j hj
              by_cases y : j = s
              · rw [y, up]
                exact h2 s (by omega) s4
              · exact h1 j (by omega)
            | true =>
              rw [if_pos w] at up
              have lo : sv_YS U s ||| sv_YS U b < 2 ^ 4 := Nat.or_lt_two_pow ls l
              refine br_f (by rw [sv_tb0 (by omega) (by omega), w]; decide) (And.intro hi (And.intro (vp_in_nI hb (by decide)) (And.intro hi ?_)))
              rw [sv_or, sv_n2 (by omega), nI_clamp (by omega)]
              refine nm_e (nm_r (nI_1 s) (ih (s + 1) _ (by omega) ?_ ?_))
              · intro j hj
                by_cases y : j = s
                · rw [y, pk_us, up]
                · rw [pk_un y]
                  exact h1 j (by omega)
              · intro j hj1 hj2
                rw [pk_un (by omega)]
                exact h2 j (by omega) hj2
        exact ⟨5, key 4 0 ab rfl (fun j hj => by omega) (fun j _ hj => hA j hj)⟩
end
theorem i_vc_below {k : Nat} {u : SX} {v : SY} (I : i_Rel k u v) (hk : k + 5 ≤ 2560) (v1 : Int32) (v2 : Int32) : wpX_below (fun r u' => wpY_below (fun r' v' => r' = r ∧ i_Rel (k + 5) u' v') v v1 v2) u v1 v2 := by
  refine sv_el (P := fun u v => wpX_below (fun r u' => wpY_below (fun r' v' => r' = r ∧ i_Rel (k + 5) u' v') v v1 v2) u v1 v2) ?_ I
  intros
  exact sv_vc_below (by assumption) v1 v2
theorem i_vc_atMost {k : Nat} {u : SX} {v : SY} (I : i_Rel k u v) (hk : k + 5 ≤ 2560) (v1 : Int32) (v2 : Int32) : wpX_atMost (fun r => wpY_atMost (fun r' => r' = r ∧ i_Rel (k + 5) u v) v v1 v2) u v1 v2 := by
  refine sv_el (P := fun u v => wpX_atMost (fun r => wpY_atMost (fun r' => r' = r ∧ i_Rel (k + 5) u v) v v1 v2) u v1 v2) ?_ I
  intros
  exact sv_vc_atMost (by assumption) v1 v2
end
section
/-! constant, variable, ranks -/
theorem sv_out3 {a : Int32} (h : sv_out a 3) : a < 0 ∨ (¬ a < 0 ∧ 2 < a) := by
  rcases h with h | h
  · exact Or.inl h
  · by_cases z : a < 0
    · exact Or.inl z
    · exact Or.inr ⟨z, sv_23.mpr h⟩
theorem sv_n23 {j : Nat} (h : j < 3) : ¬ 2 < nI j := fun z => nI_ge (b := 3) h (by decide) (sv_23.mp z)
theorem sv_bm {n i j : Nat} : (n ||| 2 ^ i).testBit j = if j = i then true else n.testBit j := by
  rw [Nat.testBit_or, Nat.testBit_two_pow]
  by_cases e : j = i
  · rw [if_pos e, decide_eq_true e.symm, Bool.or_true]
  · rw [if_neg e, decide_eq_false (fun z => e z.symm), Bool.or_false]
theorem sv_bc {n i j w : Nat} (hj : j < w) : (n &&& (2 ^ i ^^^ (2 ^ w - 1))).testBit j = if j = i then false else n.testBit j := by
  rw [Nat.testBit_and, Nat.testBit_xor, Nat.testBit_two_pow, Nat.testBit_two_pow_sub_one, decide_eq_true hj]
  by_cases e : j = i
  · rw [if_pos e, decide_eq_true e.symm]
    simp
  · rw [if_neg e, decide_eq_false (fun z => e z.symm)]
    simp
section
variable {rf oc kn ct : Int32} {rg : Int64} {ab cs vs tk sz od ow wh lf rt jo ta tb th cn al fo ts : Nat → Int32}
variable {un so ff gg wn zs tq my tg wd : Nat → Int32}
variable {RF RG k : Nat} {C V T S : Nat → Nat} {U F G : Nat → Bool}
theorem sv_vc_constant (h : sv_IV RF RG kn ct ab C V T S cn al fo U F G) (v1 v2 : Int32) : wpX_constant (fun r u' => wpY_constant (fun r' v' => r' = r ∧ i_Rel (k + 5) u' v') (sv_bF U, sv_nF C, sv_bF F, sv_bF G, sv_nF V, sv_nF S, sv_nF T, my, tg, wd) v1 v2) (nI RF, lN RG, oc, kn, ct, ab, sv_nF C, sv_nF V, sv_nF T, sv_nF S, od, ow, wh, lf, rt, jo, ta, tb, th, cn, al, fo, ts) v1 v2 := by
  rcases sv_io v1 (n := 3) (by decide) with z | ⟨c, hc, rfl⟩
  · rcases sv_out3 z with y | ⟨y1, y2⟩
    · exact br_t y (br_t y ⟨rfl, sv_in h⟩)
    · exact br_f y1 (br_t y2 (br_f y1 (br_t y2 ⟨rfl, sv_in h⟩)))
  · refine br_f (nI_pos (by omega)) (br_f (sv_n23 hc) ?_)
    rcases sv_io v2 (n := 4) (by decide) with z | ⟨s, hs, rfl⟩
    · refine sv_xsf z ?_
      refine br_t rfl ?_
      refine br_f (nI_pos (by omega)) (br_f (sv_n23 hc) ?_)
      refine sv_ysf z ?_
      exact br_t rfl ⟨rfl, sv_in h⟩
    · refine sv_xst hs ?_
      refine br_f (by decide) (And.intro (vp_in_nI hc (by decide)) ?_)
      rw [sv_n2 (by omega), nI_clamp (by omega)]
      refine nm_r (sv_updN C c s) ?_
      refine br_f (nI_pos (by omega)) (br_f (sv_n23 hc) ?_)
      refine sv_yst hs ?_
      refine br_f (by decide) (And.intro (vp_in_nI hc (by decide)) ?_)
      rw [nI_clamp (by omega)]
      refine nm_r (sv_updN C c s) ⟨rfl, sv_in ?_⟩
      obtain ⟨a1, a2, a3, a4, a5, a6, a7, a8, a9, a10, _⟩ := h
      exact ⟨a1, a2, a3, a4, a5, sv_up_all (P := fun x => x < 4) a6 hs, a7, a8, a9, a10, Or.inl rfl⟩
theorem sv_vc_variable (h : sv_IV RF RG kn ct ab C V T S cn al fo U F G) (v1 v2 : Int32) : wpX_variable (fun r u' => wpY_variable (fun r' v' => r' = r ∧ i_Rel (k + 5) u' v') (sv_bF U, sv_nF C, sv_bF F, sv_bF G, sv_nF V, sv_nF S, sv_nF T, my, tg, wd) v1 v2) (nI RF, lN RG, oc, kn, ct, ab, sv_nF C, sv_nF V, sv_nF T, sv_nF S, od, ow, wh, lf, rt, jo, ta, tb, th, cn, al, fo, ts) v1 v2 := by
  unfold wpX_variable
  rcases sv_io v1 (n := 3) (by decide) with z | ⟨c, hc, rfl⟩
  · refine sv_xvf z ?_
    refine br_t rfl ?_
    rcases sv_out3 z with y | ⟨y1, y2⟩
    · exact br_t y ⟨rfl, sv_in h⟩
    · exact br_f y1 (br_t y2 ⟨rfl, sv_in h⟩)
  · refine sv_xvt hc ?_
    refine br_f (by decide) ?_
    rcases sv_io v2 (n := 4) (by decide) with z | ⟨s, hs, rfl⟩
    · refine sv_xsf z ?_
      refine br_t rfl ?_
      refine br_f (nI_pos (by omega)) (br_f (sv_n23 hc) ?_)
      refine sv_ysf z ?_
      exact br_t rfl ⟨rfl, sv_in h⟩
    · refine sv_xst hs ?_
      refine br_f (by decide) (And.intro (vp_in_nI hc (by decide)) ?_)
      rw [sv_n2 (by omega), nI_clamp (by omega)]
      refine nm_r (sv_updN V c s) ?_
      refine br_f (nI_pos (by omega)) (br_f (sv_n23 hc) ?_)
      refine sv_yst hs ?_
      refine br_f (by decide) (And.intro (vp_in_nI hc (by decide)) ?_)
      rw [nI_clamp (by omega)]
      refine nm_r (sv_updN V c s) ⟨rfl, sv_in ?_⟩
      obtain ⟨a1, a2, a3, a4, a5, a6, a7, a8, a9, a10, _⟩ := h
      exact ⟨a1, a2, a3, a4, a5, a6, sv_up_all (P := fun x => x < 4) a7 hs, a8, a9, a10, Or.inl rfl⟩
theorem sv_yrF (h : sv_IV RF RG kn ct ab C V T S cn al fo U F G) {v1 v2 x : Int32} (ho : sv_out v1 4 ∨ sv_out v2 4) : wpY_rankF (fun r' v' => r' = 0 ∧ i_Rel (k + 5) (nI RF, lN RG, oc, kn, ct, ab, sv_nF C, sv_nF V, sv_nF T, sv_nF S, od, ow, wh, lf, rt, jo, ta, tb, th, cn, al, fo, ts) v') (sv_bF U, sv_nF C, sv_bF F, sv_bF G, sv_nF V, sv_nF S, sv_nF T, my, tg, wd) v1 v2 x := by
  unfold wpY_rankF
  rcases sv_io v1 (n := 4) (by decide) with z | ⟨a, ha, rfl⟩
  · refine sv_ysf z ?_
    exact br_t rfl ⟨rfl, sv_in h⟩
  · refine sv_yst ha ?_
    refine br_f (by decide) ?_
    rcases ho with y | y
    · exfalso
      rcases y with y | y
      · exact nI_pos (by omega) y
      · exact nI_ge ha (by decide) y
    · refine sv_ysf y ?_
      exact br_t rfl ⟨rfl, sv_in h⟩
theorem sv_vc_rankF (h : sv_IV RF RG kn ct ab C V T S cn al fo U F G) (v1 v2 : Int32) (on : Bool) : wpX_rankF (fun r u' => wpY_rankF (fun r' v' => r' = r ∧ i_Rel (k + 5) u' v') (sv_bF U, sv_nF C, sv_bF F, sv_bF G, sv_nF V, sv_nF S, sv_nF T, my, tg, wd) v1 v2 (sv_bI on)) (nI RF, lN RG, oc, kn, ct, ab, sv_nF C, sv_nF V, sv_nF T, sv_nF S, od, ow, wh, lf, rt, jo, ta, tb, th, cn, al, fo, ts) v1 v2 (sv_bI on) := by
  unfold wpX_rankF
  rcases sv_io v1 (n := 4) (by decide) with z | ⟨s, hs, rfl⟩
  · refine sv_xsf z ?_
    exact br_t rfl (sv_yrF h (Or.inl z))
  · refine sv_xst hs ?_
    refine br_f (by decide) ?_
    rcases sv_io v2 (n := 4) (by decide) with z | ⟨t, ht, rfl⟩
    · refine sv_xsf z ?_
      exact br_t rfl (sv_yrF h (Or.inr z))
    · refine sv_xst ht ?_
      refine br_f (by decide) ?_
      have e4 : 4 * nI s + nI t = nI (4 * s + t) := by
        have : 4 * nI s = nI (4 * s) := pk_mul 4 s
        rw [this, nI_add]
      rw [e4, sv_shl1 (by omega)]
      refine nm_e ?_
      have fin : ∀ RF', RF' < 65536 → (∀ i, i < 16 → RF'.testBit i = if i = 4 * s + t then on else RF.testBit i) → wpY_rankF (fun r' v' => r' = 1 ∧ i_Rel (k + 5) (nI RF', lN RG, oc, 0, ct, ab, sv_nF C, sv_nF V, sv_nF T, sv_nF S, od, ow, wh, lf, rt, jo, ta, tb, th, cn, al, fo, ts) v') (sv_bF U, sv_nF C, sv_bF F, sv_bF G, sv_nF V, sv_nF S, sv_nF T, my, tg, wd) (nI s) (nI t) (sv_bI on) := by
        intro RF' hl hb
        unfold wpY_rankF
        refine sv_yst hs ?_
        refine br_f (by decide) ?_
        refine sv_yst ht ?_
        refine br_f (by decide) ?_
        rw [e4]
        refine And.intro (vp_in_nI (by omega) (by decide)) ?_
        have en : vp_nar .boolean (sv_bI on) = sv_bI on := by cases on <;> rfl
        rw [en, nI_clamp (by omega)]
        refine nm_r (sv_updB F (4 * s + t) on) ⟨rfl, sv_in ?_⟩
        obtain ⟨a1, a2, a3, a4, a5, a6, a7, a8, a9, a10, _⟩ := h
        refine ⟨hl, a2, fun i hi => ?_, a4, a5, a6, a7, a8, a9, a10, Or.inl rfl⟩
        rw [hb i hi]
        by_cases y : i = 4 * s + t
        · rw [if_pos y, y, sv_ubs]
        · rw [if_neg y, sv_ubn y]
          exact a3 i hi
      have hRF := h.1
      cases on with
      | false =>
        refine br_t rfl ?_
        have em : (-1 : Int32) = nI (2 ^ 32 - 1) := by decide
        rw [em, nx_xor, nx_and]
        refine nm_e (fin _ ?_ ?_)
        · exact Nat.lt_of_le_of_lt Nat.and_le_left hRF
        · intro i hi
          exact sv_bc (by omega)
      | true =>
        refine br_f (by decide) ?_
        rw [sv_or]
        refine nm_e (fin _ ?_ ?_)
        · have : 2 ^ (4 * s + t) < 2 ^ 16 := Nat.pow_lt_pow_right (by omega) (by omega)
          exact Nat.or_lt_two_pow (n := 16) hRF this
        · intro i hi
          exact sv_bm
theorem sv_yrG (h : sv_IV RF RG kn ct ab C V T S cn al fo U F G) {v1 v2 v3 x : Int32} (ho : sv_out v1 4 ∨ sv_out v2 4 ∨ sv_out v3 4) : wpY_rankG (fun r' v' => r' = 0 ∧ i_Rel (k + 5) (nI RF, lN RG, oc, kn, ct, ab, sv_nF C, sv_nF V, sv_nF T, sv_nF S, od, ow, wh, lf, rt, jo, ta, tb, th, cn, al, fo, ts) v') (sv_bF U, sv_nF C, sv_bF F, sv_bF G, sv_nF V, sv_nF S, sv_nF T, my, tg, wd) v1 v2 v3 x := by
  have no : ∀ {j : Nat}, j < 4 → ¬ sv_out (nI j) 4 := by
    intro j hj y
    rcases y with y | y
    · exact nI_pos (by omega) y
    · exact nI_ge hj (by decide) y
  unfold wpY_rankG
  rcases sv_io v1 (n := 4) (by decide) with z | ⟨a, ha, rfl⟩
  · refine sv_ysf z ?_
    exact br_t rfl ⟨rfl, sv_in h⟩
  · refine sv_yst ha ?_
    refine br_f (by decide) ?_
    rcases sv_io v2 (n := 4) (by decide) with z | ⟨b, hb, rfl⟩
    · refine sv_ysf z ?_
      exact br_t rfl ⟨rfl, sv_in h⟩
    · refine sv_yst hb ?_
      refine br_f (by decide) ?_
      rcases ho with y | y | y
      · exact absurd y (no ha)
      · exact absurd y (no hb)
      · refine sv_ysf y ?_
        exact br_t rfl ⟨rfl, sv_in h⟩
theorem sv_vc_rankG (h : sv_IV RF RG kn ct ab C V T S cn al fo U F G) (v1 v2 v3 : Int32) (on : Bool) : wpX_rankG (fun r u' => wpY_rankG (fun r' v' => r' = r ∧ i_Rel (k + 5) u' v') (sv_bF U, sv_nF C, sv_bF F, sv_bF G, sv_nF V, sv_nF S, sv_nF T, my, tg, wd) v1 v2 v3 (sv_bI on)) (nI RF, lN RG, oc, kn, ct, ab, sv_nF C, sv_nF V, sv_nF T, sv_nF S, od, ow, wh, lf, rt, jo, ta, tb, th, cn, al, fo, ts) v1 v2 v3 (sv_bI on) := by
  unfold wpX_rankG
  rcases sv_io v1 (n := 4) (by decide) with z | ⟨s, hs, rfl⟩
  · refine sv_xsf z ?_
    exact br_t rfl (sv_yrG h (Or.inl z))
  · refine sv_xst hs ?_
    refine br_f (by decide) ?_
    rcases sv_io v2 (n := 4) (by decide) with z | ⟨t, ht, rfl⟩
    · refine sv_xsf z ?_
      exact br_t rfl (sv_yrG h (Or.inr (Or.inl z)))
    · refine sv_xst ht ?_
      refine br_f (by decide) ?_
      rcases sv_io v3 (n := 4) (by decide) with z | ⟨w, hw, rfl⟩
      · refine sv_xsf z ?_
        exact br_t rfl (sv_yrG h (Or.inr (Or.inr z)))
      · refine sv_xst hw ?_
        refine br_f (by decide) ?_
        have e4 : 16 * nI s + 4 * nI t + nI w = nI (16 * s + 4 * t + w) := by
          have h1 : 16 * nI s = nI (16 * s) := pk_mul 16 s
          have h2 : 4 * nI t = nI (4 * t) := pk_mul 4 t
          rw [h1, h2, nI_add, nI_add]
        have es : (1 : Int64) <<< ((nI (16 * s + 4 * t + w)).toInt64 &&& 63) = lN (2 ^ (16 * s + 4 * t + w)) := by
          have := wb_shl 1 (k := 16 * s + 4 * t + w) (by omega)
          rw [Nat.one_mul] at this
          exact this
        rw [e4, es]
        refine nm_e ?_
        have fin : ∀ RG', RG' < 2 ^ 64 → (∀ i, i < 64 → RG'.testBit i = if i = 16 * s + 4 * t + w then on else RG.testBit i) → wpY_rankG (fun r' v' => r' = 1 ∧ i_Rel (k + 5) (nI RF, lN RG', oc, 0, ct, ab, sv_nF C, sv_nF V, sv_nF T, sv_nF S, od, ow, wh, lf, rt, jo, ta, tb, th, cn, al, fo, ts) v') (sv_bF U, sv_nF C, sv_bF F, sv_bF G, sv_nF V, sv_nF S, sv_nF T, my, tg, wd) (nI s) (nI t) (nI w) (sv_bI on) := by
          intro RG' hl hb
          unfold wpY_rankG
          refine sv_yst hs ?_
          refine br_f (by decide) ?_
          refine sv_yst ht ?_
          refine br_f (by decide) ?_
          refine sv_yst hw ?_
          refine br_f (by decide) ?_
          rw [e4]
          refine And.intro (vp_in_nI (by omega) (by decide)) ?_
          have en : vp_nar .boolean (sv_bI on) = sv_bI on := by cases on <;> rfl
          rw [en, nI_clamp (by omega)]
          refine nm_r (sv_updB G (16 * s + 4 * t + w) on) ⟨rfl, sv_in ?_⟩
          obtain ⟨a1, a2, a3, a4, a5, a6, a7, a8, a9, a10, _⟩ := h
          refine ⟨a1, hl, a3, fun i hi => ?_, a5, a6, a7, a8, a9, a10, Or.inl rfl⟩
          rw [hb i hi]
          by_cases y : i = 16 * s + 4 * t + w
          · rw [if_pos y, y, sv_ubs]
          · rw [if_neg y, sv_ubn y]
            exact a4 i hi
        have hRG := h.2.1
        have p64 : 2 ^ (16 * s + 4 * t + w) < 2 ^ 64 := Nat.pow_lt_pow_right (by omega) (by omega)
        cases on with
        | false =>
          refine br_t rfl ?_
          have em : (-1 : Int64) = lN (2 ^ 64 - 1) := by decide
          have x64 : 2 ^ (16 * s + 4 * t + w) ^^^ (2 ^ 64 - 1) < 2 ^ 64 := Nat.xor_lt_two_pow p64 (by decide)
          rw [em, lN_xor, wb_and hRG x64]
          refine nm_e (fin _ ?_ ?_)
          · exact Nat.lt_of_le_of_lt Nat.and_le_left hRG
          · intro i hi
            exact sv_bc (by omega)
        | true =>
          refine br_f (by decide) ?_
          rw [wb_or hRG p64]
          refine nm_e (fin _ ?_ ?_)
          · exact Nat.or_lt_two_pow hRG p64
          · intro i hi
            exact sv_bm
end
theorem sv_bz (v : Int32) : ∃ on, lw_bz v = sv_bI on := by
  rcases lw_bz_01 v with h | h
  · exact ⟨false, h⟩
  · exact ⟨true, h⟩
theorem i_vc_constant {k : Nat} {u : SX} {v : SY} (I : i_Rel k u v) (hk : k + 5 ≤ 2560) (v1 : Int32) (v2 : Int32) : wpX_constant (fun r u' => wpY_constant (fun r' v' => r' = r ∧ i_Rel (k + 5) u' v') v v1 v2) u v1 v2 := by
  refine sv_el (P := fun u v => wpX_constant (fun r u' => wpY_constant (fun r' v' => r' = r ∧ i_Rel (k + 5) u' v') v v1 v2) u v1 v2) ?_ I
  intros
  exact sv_vc_constant (by assumption) v1 v2
theorem i_vc_rankF {k : Nat} {u : SX} {v : SY} (I : i_Rel k u v) (hk : k + 5 ≤ 2560) (v1 : Int32) (v2 : Int32) (v3 : Int32) : wpX_rankF (fun r u' => wpY_rankF (fun r' v' => r' = r ∧ i_Rel (k + 5) u' v') v v1 v2 (lw_bz v3)) u v1 v2 (lw_bz v3) := by
  obtain ⟨on, e⟩ := sv_bz v3
  rw [e]
  refine sv_el (P := fun u v => wpX_rankF (fun r u' => wpY_rankF (fun r' v' => r' = r ∧ i_Rel (k + 5) u' v') v v1 v2 (sv_bI on)) u v1 v2 (sv_bI on)) ?_ I
  intros
  exact sv_vc_rankF (by assumption) v1 v2 on
theorem i_vc_rankG {k : Nat} {u : SX} {v : SY} (I : i_Rel k u v) (hk : k + 5 ≤ 2560) (v1 : Int32) (v2 : Int32) (v3 : Int32) (v4 : Int32) : wpX_rankG (fun r u' => wpY_rankG (fun r' v' => r' = r ∧ i_Rel (k + 5) u' v') v v1 v2 v3 (lw_bz v4)) u v1 v2 v3 (lw_bz v4) := by
  obtain ⟨on, e⟩ := sv_bz v4
  rw [e]
  refine sv_el (P := fun u v => wpX_rankG (fun r u' => wpY_rankG (fun r' v' => r' = r ∧ i_Rel (k + 5) u' v') v v1 v2 v3 (sv_bI on)) u v1 v2 v3 (sv_bI on)) ?_ I
  intros
  exact sv_vc_rankG (by assumption) v1 v2 v3 on
theorem i_vc_variable {k : Nat} {u : SX} {v : SY} (I : i_Rel k u v) (hk : k + 5 ≤ 2560) (v1 : Int32) (v2 : Int32) : wpX_variable (fun r u' => wpY_variable (fun r' v' => r' = r ∧ i_Rel (k + 5) u' v') v v1 v2) u v1 v2 := by
  refine sv_el (P := fun u v => wpX_variable (fun r u' => wpY_variable (fun r' v' => r' = r ∧ i_Rel (k + 5) u' v') v v1 v2) u v1 v2) ?_ I
  intros
  exact sv_vc_variable (by assumption) v1 v2
end
section
/-! feed, back, complete, sorts -/
theorem sv_pn_c {T T' : Nat → Nat} {i : Nat} : ∀ {n : Nat}, (∀ j, j < n → T (i + j) = T' (i + j)) → sv_pn T i n = sv_pn T' i n
  | 0, _ => rfl
  | n + 1, h => by
    rw [sv_pn_s, sv_pn_s, sv_pn_c (n := n) (fun j hj => h j (by omega)), h n (by omega)]
theorem sv_out2 {a : Int32} (h : sv_out a 2) : ¬ a = 0 ∧ ¬ a = 1 := by
  constructor
  · intro e
    subst e
    rcases h with h | h
    · exact absurd h (by decide)
    · exact absurd h (by decide)
  · intro e
    subst e
    rcases h with h | h
    · exact absurd h (by decide)
    · exact absurd h (by decide)
theorem sv_side {P : Prop} {b : Nat} (hb : b < 2) (h : P) : (nI b = 0 → P) ∧ (¬ nI b = 0 → (nI b = 1 → P) ∧ (¬ nI b = 1 → False)) := by
  rcases Nat.eq_zero_or_pos b with z | z
  · subst z
    exact br_t rfl h
  · have e : b = 1 := by omega
    subst e
    exact br_f (by decide) (br_t rfl h)
theorem sv_sideQ {P Q : Prop} {b : Nat} (hb : b < 2) (h : P) : (nI b = 0 → P) ∧ (¬ nI b = 0 → (nI b = 1 → P) ∧ (¬ nI b = 1 → Q)) :=
  ⟨(sv_side hb h).1, fun z => ⟨((sv_side hb h).2 z).1, fun y => (((sv_side hb h).2 z).2 y).elim⟩⟩
theorem sv_xsd {post : Int32 → Prop} {b : Nat} (hb : b < 2) (h : post 1) : wpX_isSide post (nI b) := sv_sideQ hb h
theorem sv_xsdf {post : Int32 → Prop} {a : Int32} (ho : sv_out a 2) (h : post 0) : wpX_isSide post a := br_f (sv_out2 ho).1 (br_f (sv_out2 ho).2 h)
section
variable {rf oc kn ct : Int32} {rg : Int64} {ab cs vs tk sz od ow wh lf rt jo ta tb th cn al fo ts : Nat → Int32}
variable {un so ff gg wn zs tq my tg wd : Nat → Int32}
variable {RF RG k : Nat} {C V T S : Nat → Nat} {U F G : Nat → Bool}
theorem sv_vc_complete (h : sv_IV RF RG kn ct ab C V T S cn al fo U F G) (v1 : Int32) : wpX_complete (fun r u' => wpY_complete (fun r' => r' = r ∧ i_Rel (k + 5) u' (sv_bF U, sv_nF C, sv_bF F, sv_bF G, sv_nF V, sv_nF S, sv_nF T, my, tg, wd)) (sv_bF U, sv_nF C, sv_bF F, sv_bF G, sv_nF V, sv_nF S, sv_nF T, my, tg, wd) v1) (nI RF, lN RG, oc, kn, ct, ab, sv_nF C, sv_nF V, sv_nF T, sv_nF S, od, ow, wh, lf, rt, jo, ta, tb, th, cn, al, fo, ts) v1 := by
  obtain ⟨a1, a2, a3, a4, a5, a6, a7, a8, a9, a10, a11⟩ := id h
  rcases sv_io v1 (n := 2) (by decide) with z | ⟨b, hb, rfl⟩
  · exact sv_xcm_f z (sv_ycm_f z ⟨rfl, sv_in h⟩)
  · refine sv_xcm hb a9 a8 (a10 b hb) ?_
    intro oc' od' ow' wh' lf' rt' jo' _ _
    exact sv_ycm hb a9 a8 (a10 b hb) ⟨rfl, sv_in h⟩
theorem sv_vc_sorts (h : sv_IV RF RG kn ct ab C V T S cn al fo U F G) (v1 : Int32) : wpX_sorts (fun r u' => wpY_sorts (fun r' => r' = r ∧ i_Rel (k + 5) u' (sv_bF U, sv_nF C, sv_bF F, sv_bF G, sv_nF V, sv_nF S, sv_nF T, my, tg, wd)) (sv_bF U, sv_nF C, sv_bF F, sv_bF G, sv_nF V, sv_nF S, sv_nF T, my, tg, wd) v1) (nI RF, lN RG, oc, kn, ct, ab, sv_nF C, sv_nF V, sv_nF T, sv_nF S, od, ow, wh, lf, rt, jo, ta, tb, th, cn, al, fo, ts) v1 := by
  obtain ⟨a1, a2, a3, a4, a5, a6, a7, a8, a9, a10, a11⟩ := id h
  rcases sv_io v1 (n := 15) (by decide) with z | ⟨t, ht, rfl⟩
  · by_cases y : v1 < 0
    · exact br_t y (br_t y ⟨rfl, sv_in h⟩)
    · have z' : (15 : Int32) ≤ v1 := by
        rcases z with z | z
        · exact absurd z y
        · exact z
      refine br_f y (br_f (fun q => sv_lt15.mp q z') ?_)
      exact br_f y (br_f (fun q => sv_le14.mp q z') ⟨rfl, sv_in h⟩)
  · refine br_f (nI_pos (by omega)) (br_t (nI_lt (b := 15) ht (by decide)) ?_)
    refine sv_xT a1 a2 a3 a4 a5 a6 ?_
    intro ts' hts
    have e : ts' (nI t).toNatClampNeg = nI (sv_SO U C F G t) := by rw [nI_clamp (by omega)]; exact hts t ht
    refine And.intro (vp_in_nI ht (by decide)) ?_
    refine sv_ysorts a6 ht ⟨e.symm, sv_in h⟩
theorem sv_vc_back (h : sv_IV RF RG kn ct ab C V T S cn al fo U F G) (v1 : Int32) : wpX_back (fun r u' => wpY_back (fun r' v' => r' = r ∧ i_Rel (k + 5) u' v') (sv_bF U, sv_nF C, sv_bF F, sv_bF G, sv_nF V, sv_nF S, sv_nF T, my, tg, wd) v1) (nI RF, lN RG, oc, kn, ct, ab, sv_nF C, sv_nF V, sv_nF T, sv_nF S, od, ow, wh, lf, rt, jo, ta, tb, th, cn, al, fo, ts) v1 := by
  obtain ⟨a1, a2, a3, a4, a5, a6, a7, a8, a9, a10, a11⟩ := id h
  unfold wpX_back
  rcases sv_io v1 (n := 2) (by decide) with z | ⟨b, hb, rfl⟩
  · refine sv_xsdf z ?_
    refine br_t rfl ?_
    exact br_f (sv_out2 z).1 (br_f (sv_out2 z).2 ⟨rfl, sv_in h⟩)
  · have s9 := a9 b
    have eS : sv_nF S (nI b).toNatClampNeg = nI (S b) := by rw [nI_clamp (by omega)]; rfl
    have hi : vp_in (nI b) 2 := vp_in_nI hb (by decide)
    refine sv_xsd hb ?_
    refine br_f (by decide) (And.intro hi ?_)
    rw [eS]
    refine pk_eq (S b) 0 (fun z => ?_) (fun z => And.intro hi (And.intro hi ?_))
    · refine sv_sideQ hb (And.intro hi ?_)
      rw [eS]
      exact br_t (by rw [z]; rfl) ⟨rfl, sv_in h⟩
    · have e1 : nI (S b) - 1 = nI (S b - 1) := pk_sub (b := 1) (by omega)
      have eu : upd (sv_nF S) b (nI (S b - 1)) = sv_nF (sv_up S b (S b - 1)) := sv_updN S b (S b - 1)
      have e5 : sv_nF (sv_up S b (S b - 1)) (nI b).toNatClampNeg = nI (S b - 1) := by
        rw [nI_clamp (by omega)]
        show nI (sv_up S b (S b - 1) b) = _
        rw [sv_ups]
      rw [e1, sv_n2 (by omega)]
      have ecl : upd (sv_nF S) (nI b).toNatClampNeg (nI (S b - 1)) = sv_nF (sv_up S b (S b - 1)) := by rw [nI_clamp (by omega)]; exact eu
      refine nm_r ecl (And.intro hi ?_)
      have ex : nI b * 9 + nI (S b - 1) = nI (9 * b + (S b - 1)) := by
        have : nI b * 9 = nI (b * 9) := pk_mul b 9
        rw [this, nI_add, Nat.mul_comm]
      have ey : 9 * nI b + nI (S b - 1) = nI (9 * b + (S b - 1)) := by
        have : 9 * nI b = nI (9 * b) := pk_mul 9 b
        rw [this, nI_add]
      have hi2 : vp_in (nI (9 * b + (S b - 1))) 18 := vp_in_nI (by omega) (by decide)
      rw [e5, ex]
      refine And.intro hi2 ?_
      refine sv_sideQ hb (And.intro hi ?_)
      rw [eS]
      refine br_f (nI_ne0 (by omega) (by omega)) (And.intro hi (And.intro hi ?_))
      rw [e1]
      refine nm_r ecl (And.intro hi ?_)
      rw [e5, ey]
      refine And.intro hi2 ⟨rfl, sv_in ?_⟩
      refine ⟨a1, a2, a3, a4, a5, a6, a7, a8, sv_up_all (P := fun x => x ≤ 9) a9 (by omega), ?_, Or.inl rfl⟩
      intro b' hb' m hm
      refine a10 b' hb' m ?_
      by_cases y : b' = b
      · subst y
        rw [sv_ups] at hm
        omega
      · rw [sv_upn y] at hm
        exact hm
theorem sv_yfd0 (h : sv_IV RF RG kn ct ab C V T S cn al fo U F G) {v2 : Int32} {b : Nat} (hb : b < 2) (ho : sv_out v2 8 ∨ 9 ≤ S b ∨ sv_cm T S b = true) (Pu : SX) (hR : i_Rel (k + 5) Pu (sv_bF U, sv_nF C, sv_bF F, sv_bF G, sv_nF V, sv_nF S, sv_nF T, my, tg, wd)) : wpY_feed (fun r' v' => r' = (-1) ∧ i_Rel (k + 5) Pu v') (sv_bF U, sv_nF C, sv_bF F, sv_bF G, sv_nF V, sv_nF S, sv_nF T, my, tg, wd) (nI b) v2 := by
  obtain ⟨a1, a2, a3, a4, a5, a6, a7, a8, a9, a10, a11⟩ := id h
  have eS : sv_nF S (nI b).toNatClampNeg = nI (S b) := by rw [nI_clamp (by omega)]; rfl
  have hi : vp_in (nI b) 2 := vp_in_nI hb (by decide)
  have s9 := a9 b
  refine sv_sideQ hb ?_
  refine br_c (fun _ => ⟨rfl, hR⟩) (fun n0 => br_c (fun _ => ⟨rfl, hR⟩) (fun n7 => ?_))
  refine sv_ycm hb a9 a8 (a10 b hb) ?_
  rcases ho with z | z | z
  · exfalso
    rcases z with z | z
    · exact n0 z
    · exact n7 (sv_7.mpr z)
  · cases sv_cm T S b with
    | true => exact br_f (by decide) ⟨rfl, hR⟩
    | false =>
      refine br_t rfl (And.intro hi ?_)
      rw [eS]
      exact br_f (nI_nlt (b := 9) z (by omega)) ⟨rfl, hR⟩
  · rw [z]
    exact br_f (by decide) ⟨rfl, hR⟩
theorem sv_vc_feed (h : sv_IV RF RG kn ct ab C V T S cn al fo U F G) (v1 v2 : Int32) : wpX_feed (fun r u' => wpY_feed (fun r' v' => r' = r ∧ i_Rel (k + 5) u' v') (sv_bF U, sv_nF C, sv_bF F, sv_bF G, sv_nF V, sv_nF S, sv_nF T, my, tg, wd) v1 v2) (nI RF, lN RG, oc, kn, ct, ab, sv_nF C, sv_nF V, sv_nF T, sv_nF S, od, ow, wh, lf, rt, jo, ta, tb, th, cn, al, fo, ts) v1 v2 := by
  obtain ⟨a1, a2, a3, a4, a5, a6, a7, a8, a9, a10, a11⟩ := id h
  unfold wpX_feed
  rcases sv_io v1 (n := 2) (by decide) with z | ⟨b, hb, rfl⟩
  · refine sv_xsdf z ?_
    refine br_t rfl ?_
    exact br_f (sv_out2 z).1 (br_f (sv_out2 z).2 ⟨rfl, sv_in h⟩)
  · have s9 := a9 b
    have eS : sv_nF S (nI b).toNatClampNeg = nI (S b) := by rw [nI_clamp (by omega)]; rfl
    have hi : vp_in (nI b) 2 := vp_in_nI hb (by decide)
    refine sv_xsd hb ?_
    refine br_f (by decide) ?_
    rcases sv_io v2 (n := 8) (by decide) with z | ⟨t, ht, rfl⟩
    · have yy := sv_yfd0 (k := k) (my := my) (tg := tg) (wd := wd) h hb (Or.inl z) (nI RF, lN RG, oc, kn, ct, ab, sv_nF C, sv_nF V, sv_nF T, sv_nF S, od, ow, wh, lf, rt, jo, ta, tb, th, cn, al, fo, ts) (sv_in (k := k) h)
      by_cases y : v2 < 0
      · exact br_t y yy
      · refine br_f y (br_t ?_ yy)
        rcases z with z | z
        · exact absurd z y
        · exact sv_7.mpr z
    · have n7 : ¬ 7 < nI t := fun q => nI_ge (b := 8) ht (by decide) (sv_7.mp q)
      refine br_f (nI_pos (by omega)) (br_f n7 (And.intro hi ?_))
      rw [eS]
      refine pk_le 9 (S b) (fun z => ?_) (fun z => ?_)
      · exact sv_yfd0 (k := k) (my := my) (tg := tg) (wd := wd) h hb (Or.inr (Or.inl z)) (nI RF, lN RG, oc, kn, ct, ab, sv_nF C, sv_nF V, sv_nF T, sv_nF S, od, ow, wh, lf, rt, jo, ta, tb, th, cn, al, fo, ts) (sv_in (k := k) h)
      · refine sv_xcm hb a9 a8 (a10 b hb) ?_
        intro oc' od' ow' wh' lf' rt' jo' _ _
        cases hcm : sv_cm T S b with
        | true =>
          refine br_f (by decide) ?_
          exact sv_yfd0 (k := k) (my := my) (tg := tg) (wd := wd) h hb (Or.inr (Or.inr hcm)) (nI RF, lN RG, oc', kn, ct, ab, sv_nF C, sv_nF V, sv_nF T, sv_nF S, od', ow', wh', lf', rt', jo', ta, tb, th, cn, al, fo, ts) (sv_in (k := k) h)
        | false =>
          have pn0 : ¬ sv_pn T (9 * b) (S b) = 0 := of_decide_eq_false hcm
          have ex : nI b * 9 + nI (S b) = nI (9 * b + S b) := by
            have : nI b * 9 = nI (b * 9) := pk_mul b 9
            rw [this, nI_add, Nat.mul_comm]
          have ey : 9 * nI b + nI (S b) = nI (9 * b + S b) := by
            have : 9 * nI b = nI (9 * b) := pk_mul 9 b
            rw [this, nI_add]
          have hi2 : vp_in (nI (9 * b + S b)) 18 := vp_in_nI (by omega) (by decide)
          have eT : upd (sv_nF T) (nI (9 * b + S b)).toNatClampNeg (nI t) = sv_nF (sv_up T (9 * b + S b) t) := by rw [nI_clamp (by omega)]; exact sv_updN _ _ _
          have eU : upd (sv_nF S) (nI b).toNatClampNeg (nI (S b + 1)) = sv_nF (sv_up S b (S b + 1)) := by rw [nI_clamp (by omega)]; exact sv_updN _ _ _
          have eV : sv_nF (sv_up S b (S b + 1)) (nI b).toNatClampNeg = nI (S b + 1) := by
            rw [nI_clamp (by omega)]
            show nI (sv_up S b (S b + 1) b) = _
            rw [sv_ups]
          refine br_t rfl (And.intro hi ?_)
          rw [eS, ex, sv_n2 (by omega)]
          refine And.intro hi2 (nm_r eT (And.intro hi (And.intro hi ?_)))
          rw [nI_1, sv_n2 (by omega)]
          refine nm_r eU (And.intro hi ?_)
          rw [eV]
          refine sv_sideQ hb ?_
          refine br_f (nI_pos (by omega)) (br_f n7 ?_)
          refine sv_ycm hb a9 a8 (a10 b hb) ?_
          rw [hcm]
          refine br_t rfl (And.intro hi ?_)
          rw [eS]
          refine br_t (nI_lt (b := 9) z (by decide)) (And.intro hi ?_)
          rw [ey]
          refine And.intro hi2 (nm_r eT (And.intro hi (And.intro hi ?_)))
          rw [nI_1]
          refine nm_r eU (And.intro hi ?_)
          rw [eV]
          refine ⟨rfl, sv_in ?_⟩
          refine ⟨a1, a2, a3, a4, a5, a6, a7, sv_up_all (P := fun x => x < 8) a8 ht, sv_up_all (P := fun x => x ≤ 9) a9 (by omega), ?_, Or.inl rfl⟩
          intro b' hb' m hm
          have sb' := a9 b'
          by_cases y : b' = b
          · subst y
            rw [sv_ups] at hm
            rw [sv_pn_c (T' := T) (fun j hj => sv_upn (by omega))]
            rcases Nat.lt_or_ge m (S b') with q | q
            · exact a10 b' hb' m q
            · have : m = S b' := by omega
              rw [this]
              omega
          · rw [sv_upn y] at hm
            rw [sv_pn_c (T' := T) (fun j hj => sv_upn (by omega))]
            exact a10 b' hb' m hm
end
theorem i_vc_feed {k : Nat} {u : SX} {v : SY} (I : i_Rel k u v) (hk : k + 5 ≤ 2560) (v1 : Int32) (v2 : Int32) : wpX_feed (fun r u' => wpY_feed (fun r' v' => r' = r ∧ i_Rel (k + 5) u' v') v v1 v2) u v1 v2 := by
  refine sv_el (P := fun u v => wpX_feed (fun r u' => wpY_feed (fun r' v' => r' = r ∧ i_Rel (k + 5) u' v') v v1 v2) u v1 v2) ?_ I
  intros
  exact sv_vc_feed (by assumption) v1 v2
theorem i_vc_back {k : Nat} {u : SX} {v : SY} (I : i_Rel k u v) (hk : k + 5 ≤ 2560) (v1 : Int32) : wpX_back (fun r u' => wpY_back (fun r' v' => r' = r ∧ i_Rel (k + 5) u' v') v v1) u v1 := by
  refine sv_el (P := fun u v => wpX_back (fun r u' => wpY_back (fun r' v' => r' = r ∧ i_Rel (k + 5) u' v') v v1) u v1) ?_ I
  intros
  exact sv_vc_back (by assumption) v1
theorem i_vc_complete {k : Nat} {u : SX} {v : SY} (I : i_Rel k u v) (hk : k + 5 ≤ 2560) (v1 : Int32) : wpX_complete (fun r u' => wpY_complete (fun r' => r' = r ∧ i_Rel (k + 5) u' v) v v1) u v1 := by
  refine sv_el (P := fun u v => wpX_complete (fun r u' => wpY_complete (fun r' => r' = r ∧ i_Rel (k + 5) u' v) v v1) u v1) ?_ I
  intros
  exact sv_vc_complete (by assumption) v1
theorem i_vc_sorts {k : Nat} {u : SX} {v : SY} (I : i_Rel k u v) (hk : k + 5 ≤ 2560) (v1 : Int32) : wpX_sorts (fun r u' => wpY_sorts (fun r' => r' = r ∧ i_Rel (k + 5) u' v) v v1) u v1 := by
  refine sv_el (P := fun u v => wpX_sorts (fun r u' => wpY_sorts (fun r' => r' = r ∧ i_Rel (k + 5) u' v) v v1) u v1) ?_ I
  intros
  exact sv_vc_sorts (by assumption) v1
end
section
/-! the answers -/
section
variable {rf oc kn ct : Int32} {rg : Int64} {ab cs vs tk sz od ow wh lf rt jo ta tb th cn al fo ts : Nat → Int32}
variable {un so ff gg wn zs tq my tg wd : Nat → Int32}
variable {RF RG k : Nat} {C V T S : Nat → Nat} {U F G : Nat → Bool}
theorem sv_vc_solutions (h : sv_IV RF RG kn ct ab C V T S cn al fo U F G) : wpX_solutions (fun r u' => wpY_solutions (fun r' v' => r' = r ∧ i_Rel (k + 5) u' v') (sv_bF U, sv_nF C, sv_bF F, sv_bF G, sv_nF V, sv_nF S, sv_nF T, my, tg, wd)) (nI RF, lN RG, oc, kn, ct, ab, sv_nF C, sv_nF V, sv_nF T, sv_nF S, od, ow, wh, lf, rt, jo, ta, tb, th, cn, al, fo, ts) := by
  obtain ⟨a1, a2, a3, a4, a5, a6, a7, a8, a9, a10, a11⟩ := id h
  unfold wpX_solutions
  refine sv_xsolve a1 a2 a3 a4 a5 a6 a9 a8 a7 a10 a11 ?_
  intro oc' ct' od' ow' wh' lf' rt' jo' ta' tb' th' cn' al' fo' ts' hK
  unfold wpY_solutions
  refine sv_ycnt (v := 0) (u := 0) (x2 := -1) (by omega) (by omega) a9 a8 a7 a6 a10 (sv_sol (sv_SO U C F G) V T S) (fun c _ hs => hs) (fun c _ hs => Or.inl ⟨by decide, by rw [hs, decide_eq_true rfl]⟩) ?_
  intro my' tg' wd'
  refine ⟨hK.1.symm, sv_in (k := k + 5) ?_⟩
  exact ⟨a1, a2, a3, a4, a5, a6, a7, a8, a9, a10, Or.inr ⟨rfl, hK⟩⟩
theorem sv_yfi_f {post : Int32 → SY → Prop} (h : sv_IV RF RG kn ct ab C V T S cn al fo U F G) {a : Int32} (ho : sv_out a 3) (K : post (-1) (sv_bF U, sv_nF C, sv_bF F, sv_bF G, sv_nF V, sv_nF S, sv_nF T, my, tg, wd)) : wpY_first post (sv_bF U, sv_nF C, sv_bF F, sv_bF G, sv_nF V, sv_nF S, sv_nF T, my, tg, wd) a := by
  obtain ⟨a1, a2, a3, a4, a5, a6, a7, a8, a9, a10, a11⟩ := id h
  unfold wpY_first
  refine sv_ycm (b := 0) (by omega) a9 a8 (a10 0 (by omega)) ?_
  cases sv_cm T S 0 with
  | false => exact br_t rfl K
  | true =>
    refine br_f (by decide) ?_
    refine sv_ycm (b := 1) (by omega) a9 a8 (a10 1 (by omega)) ?_
    cases sv_cm T S 1 with
    | false => exact br_t rfl K
    | true =>
      refine br_f (by decide) ?_
      rcases sv_out3 ho with y | ⟨y1, y2⟩
      · exact br_t y K
      · exact br_f y1 (br_f (fun q => sv_le2.mp q (sv_23.mp y2)) K)
theorem sv_yva_f {post : Int32 → SY → Prop} (h : sv_IV RF RG kn ct ab C V T S cn al fo U F G) {a : Int32} (ho : sv_out a 3) (K : post 0 (sv_bF U, sv_nF C, sv_bF F, sv_bF G, sv_nF V, sv_nF S, sv_nF T, my, tg, wd)) : wpY_values post (sv_bF U, sv_nF C, sv_bF F, sv_bF G, sv_nF V, sv_nF S, sv_nF T, my, tg, wd) a := by
  obtain ⟨a1, a2, a3, a4, a5, a6, a7, a8, a9, a10, a11⟩ := id h
  unfold wpY_values
  refine sv_ycm (b := 0) (by omega) a9 a8 (a10 0 (by omega)) ?_
  cases sv_cm T S 0 with
  | false => exact br_t rfl K
  | true =>
    refine br_f (by decide) ?_
    refine sv_ycm (b := 1) (by omega) a9 a8 (a10 1 (by omega)) ?_
    cases sv_cm T S 1 with
    | false => exact br_t rfl K
    | true =>
      refine br_f (by decide) ?_
      rcases sv_out3 ho with y | ⟨y1, y2⟩
      · exact br_t y K
      · exact br_f y1 (br_f (fun q => sv_le2.mp q (sv_23.mp y2)) K)
theorem sv_vc_first (h : sv_IV RF RG kn ct ab C V T S cn al fo U F G) (v1 : Int32) : wpX_first (fun r u' => wpY_first (fun r' v' => r' = r ∧ i_Rel (k + 5) u' v') (sv_bF U, sv_nF C, sv_bF F, sv_bF G, sv_nF V, sv_nF S, sv_nF T, my, tg, wd) v1) (nI RF, lN RG, oc, kn, ct, ab, sv_nF C, sv_nF V, sv_nF T, sv_nF S, od, ow, wh, lf, rt, jo, ta, tb, th, cn, al, fo, ts) v1 := by
  obtain ⟨a1, a2, a3, a4, a5, a6, a7, a8, a9, a10, a11⟩ := id h
  unfold wpX_first
  refine sv_xsolve a1 a2 a3 a4 a5 a6 a9 a8 a7 a10 a11 ?_
  intro oc' ct' od' ow' wh' lf' rt' jo' ta' tb' th' cn' al' fo' ts' hK
  have hI : sv_IV RF RG 1 ct' ab C V T S cn' al' fo' U F G := ⟨a1, a2, a3, a4, a5, a6, a7, a8, a9, a10, Or.inr ⟨rfl, hK⟩⟩
  rcases sv_io v1 (n := 3) (by decide) with z | ⟨v, hv, rfl⟩
  · refine sv_xvf z ?_
    exact br_t rfl (sv_yfi_f h z ⟨rfl, sv_in (k := k + 5) hI⟩)
  · refine sv_xvt hv ?_
    refine br_f (by decide) ?_
    have nle := sv_ct_le (sv_Q (sv_SO U C F G) V T S) 3375
    rw [hK.1]
    refine pk_le (sv_ct (sv_Q (sv_SO U C F G) V T S) 3375) 0 (fun c0 => ?_) (fun c0 => ?_)
    · refine sv_yfi hv a9 a8 a7 a6 a10 ?_ ?_
      · intro w hw hq _
        have := sv_ct_pos (p := sv_Q (sv_SO U C F G) V T S) hq hw
        omega
      · intro _ my' tg' wd'
        refine ⟨rfl, sv_in (k := k + 5) ?_⟩
        rw [← hK.1]
        exact hI
    · obtain ⟨w0, hw0, hq0, hl0⟩ := sv_least (sv_ct_ex c0)
      have ef : fo' (nI v).toNatClampNeg = nI (sv_dg v w0) := by rw [nI_clamp (by omega)]; exact hK.2.2.2 w0 hw0 hq0 hl0 v hv
      refine And.intro (vp_in_nI hv (by decide)) ?_
      rw [ef]
      refine sv_yfi hv a9 a8 a7 a6 a10 ?_ ?_
      · intro w hw hq hl my' tg' wd'
        have e : w = w0 := by
          rcases Nat.lt_trichotomy w w0 with y | y | y
          · have := hl0 w y
            rw [hq] at this
            exact absurd this (by decide)
          · exact y
          · have := hl w0 y
            rw [hq0] at this
            exact absurd this (by decide)
        refine ⟨by rw [e], sv_in (k := k + 5) ?_⟩
        rw [← hK.1]
        exact hI
      · intro hno
        have := hno w0 hw0
        rw [hq0] at this
        exact absurd this (by decide)
theorem sv_xv17 {post : Int32 → SX → Prop} {v : Nat} {q : Nat → Bool} (hv : v < 3) (hK : sv_KN q ct cn al fo)
    (K : post (nI (sv_O q (fun c => 2 ^ sv_dg v c) 3375)) (rf, rg, oc, kn, ct, ab, cs, vs, tk, sz, od, ow, wh, lf, rt, jo, ta, tb, th, cn, al, fo, ts)) : ∃ n17, wX_values_17 post (nI v) rf rg oc kn ct ab cs vs tk sz od ow wh lf rt jo ta tb th cn al fo ts n17 0 0 := by
  rw [← sv_vals] at K
  have key : ∀ k t, t + k = 15 → wX_values_17 post (nI v) rf rg oc kn ct ab cs vs tk sz od ow wh lf rt jo ta tb th cn al fo ts (k + 1) (nI (sv_O (fun t => decide (0 < sv_ct (fun w => q w && decide (sv_dg v w = t)) 3375)) (fun t => 2 ^ t) t)) (nI t) := by
    intro k
    induction k with
    | zero =>
      intro t ht
      have e : t = 15 := by omega
      subst e
      exact br_t (Int32.le_refl _) K
    | succ k ih =>
      intro t ht
      have i' := ih (t + 1) (by omega)
      have ei : nI v * 15 + nI t = nI (v * 15 + t) := by
        have : nI v * 15 = nI (v * 15) := pk_mul v 15
        rw [this, nI_add]
      have ec : cn (nI (v * 15 + t)).toNatClampNeg = nI (sv_ct (fun w => q w && decide (sv_dg v w = t)) 3375) := by rw [nI_clamp (by omega)]; exact hK.2.1 v t hv (by omega)
      have nle := sv_ct_le (fun w => q w && decide (sv_dg v w = t)) 3375
      refine br_f (nI_ge (b := 15) (by omega) (by decide)) ?_
      rw [ei]
      refine And.intro (vp_in_nI (by omega) (by decide)) ?_
      rw [ec]
      refine pk_le (sv_ct (fun w => q w && decide (sv_dg v w = t)) 3375) 0 (fun c0 => nm_r (nI_1 t) ?_) (fun c0 => ?_)
      · rw [sv_O_f (decide_eq_false (by omega))] at i'
        exact i'
      · rw [sv_shl1 (by omega), sv_or]
        refine nm_e (nm_r (nI_1 t) ?_)
        rw [sv_O_t (decide_eq_true c0)] at i'
        exact i'
  exact ⟨16, key 15 0 rfl⟩
theorem sv_vc_values (h : sv_IV RF RG kn ct ab C V T S cn al fo U F G) (v1 : Int32) : wpX_values (fun r u' => wpY_values (fun r' v' => r' = r ∧ i_Rel (k + 5) u' v') (sv_bF U, sv_nF C, sv_bF F, sv_bF G, sv_nF V, sv_nF S, sv_nF T, my, tg, wd) v1) (nI RF, lN RG, oc, kn, ct, ab, sv_nF C, sv_nF V, sv_nF T, sv_nF S, od, ow, wh, lf, rt, jo, ta, tb, th, cn, al, fo, ts) v1 := by
  obtain ⟨a1, a2, a3, a4, a5, a6, a7, a8, a9, a10, a11⟩ := id h
  unfold wpX_values
  rcases sv_io v1 (n := 3) (by decide) with z | ⟨v, hv, rfl⟩
  · refine sv_xvf z ?_
    exact br_t rfl (sv_yva_f h z ⟨rfl, sv_in (k := k + 5) h⟩)
  · refine sv_xvt hv ?_
    refine br_f (by decide) ?_
    refine sv_xsolve a1 a2 a3 a4 a5 a6 a9 a8 a7 a10 a11 ?_
    intro oc' ct' od' ow' wh' lf' rt' jo' ta' tb' th' cn' al' fo' ts' hK
    refine sv_xv17 hv hK ?_
    refine sv_yva hv a9 a8 a7 a6 a10 ?_
    intro my' tg' wd'
    exact ⟨rfl, sv_in (k := k + 5) ⟨a1, a2, a3, a4, a5, a6, a7, a8, a9, a10, Or.inr ⟨rfl, hK⟩⟩⟩
theorem sv_vc_with (h : sv_IV RF RG kn ct ab C V T S cn al fo U F G) (v1 v2 : Int32) : wpX_solutionsWith (fun r u' => wpY_solutionsWith (fun r' v' => r' = r ∧ i_Rel (k + 5) u' v') (sv_bF U, sv_nF C, sv_bF F, sv_bF G, sv_nF V, sv_nF S, sv_nF T, my, tg, wd) v1 v2) (nI RF, lN RG, oc, kn, ct, ab, sv_nF C, sv_nF V, sv_nF T, sv_nF S, od, ow, wh, lf, rt, jo, ta, tb, th, cn, al, fo, ts) v1 v2 := by
  obtain ⟨a1, a2, a3, a4, a5, a6, a7, a8, a9, a10, a11⟩ := id h
  unfold wpX_solutionsWith
  rcases sv_io v1 (n := 3) (by decide) with z | ⟨v, hv, rfl⟩
  · refine sv_xvf z ?_
    refine br_t rfl ?_
    rcases sv_out3 z with y | ⟨y1, y2⟩
    · exact br_t y ⟨rfl, sv_in (k := k + 5) h⟩
    · exact br_f y1 (br_t y2 ⟨rfl, sv_in (k := k + 5) h⟩)
  · refine sv_xvt hv ?_
    refine br_f (by decide) ?_
    rcases sv_io v2 (n := 15) (by decide) with z | ⟨t, ht, rfl⟩
    · by_cases y : v2 < 0
      · refine br_t y ?_
        exact br_f (nI_pos (by omega)) (br_f (sv_n23 hv) (br_t y ⟨rfl, sv_in (k := k + 5) h⟩))
      · have z' : (15 : Int32) ≤ v2 := by
          rcases z with z | z
          · exact absurd z y
          · exact z
        refine br_f y (br_f (fun q => sv_lt15.mp q z') ?_)
        exact br_f (nI_pos (by omega)) (br_f (sv_n23 hv) (br_f y (br_f (fun q => sv_le14.mp q z') ⟨rfl, sv_in (k := k + 5) h⟩)))
    · refine br_f (nI_pos (by omega)) (br_t (nI_lt (b := 15) ht (by decide)) ?_)
      refine sv_xsolve a1 a2 a3 a4 a5 a6 a9 a8 a7 a10 a11 ?_
      intro oc' ct' od' ow' wh' lf' rt' jo' ta' tb' th' cn' al' fo' ts' hK
      have ei : nI v * 15 + nI t = nI (v * 15 + t) := by
        have : nI v * 15 = nI (v * 15) := pk_mul v 15
        rw [this, nI_add]
      have ec : cn' (nI (v * 15 + t)).toNatClampNeg = nI (sv_ct (fun w => sv_Q (sv_SO U C F G) V T S w && decide (sv_dg v w = t)) 3375) := by rw [nI_clamp (by omega)]; exact hK.2.1 v t hv ht
      rw [ei]
      refine And.intro (vp_in_nI (by omega) (by decide)) ?_
      rw [ec]
      refine br_f (nI_pos (by omega)) (br_f (sv_n23 hv) (br_f (nI_pos (by omega)) (br_t (nI_le (b := 14) (by omega) (by decide)) ?_)))
      refine sv_ycnt hv hv a9 a8 a7 a6 a10 (fun c => sv_sol (sv_SO U C F G) V T S c && decide (sv_dg v c = t)) (fun c _ hs => by rw [hs]; rfl) (fun c hc hs => Or.inr ⟨nI_pos (by omega), rfl, ?_⟩) ?_
      · have l := sv_dg_lt hc v
        rw [hs, Bool.true_and, decide_eq_true_iff, nI_eq (by omega) (by omega)]
      · intro my' tg' wd'
        refine ⟨congrArg nI (sv_ct_eq fun c _ => ?_), sv_in (k := k + 5) ⟨a1, a2, a3, a4, a5, a6, a7, a8, a9, a10, Or.inr ⟨rfl, hK⟩⟩⟩
        unfold sv_Q
        exact (Bool.and_assoc _ _ _).symm
theorem sv_vc_alike (h : sv_IV RF RG kn ct ab C V T S cn al fo U F G) (v1 v2 : Int32) : wpX_solutionsAlike (fun r u' => wpY_solutionsAlike (fun r' v' => r' = r ∧ i_Rel (k + 5) u' v') (sv_bF U, sv_nF C, sv_bF F, sv_bF G, sv_nF V, sv_nF S, sv_nF T, my, tg, wd) v1 v2) (nI RF, lN RG, oc, kn, ct, ab, sv_nF C, sv_nF V, sv_nF T, sv_nF S, od, ow, wh, lf, rt, jo, ta, tb, th, cn, al, fo, ts) v1 v2 := by
  obtain ⟨a1, a2, a3, a4, a5, a6, a7, a8, a9, a10, a11⟩ := id h
  unfold wpX_solutionsAlike
  rcases sv_io v1 (n := 3) (by decide) with z | ⟨v, hv, rfl⟩
  · refine sv_xvf z ?_
    refine br_t rfl ?_
    rcases sv_out3 z with y | ⟨y1, y2⟩
    · exact br_t y ⟨rfl, sv_in (k := k + 5) h⟩
    · exact br_f y1 (br_t y2 ⟨rfl, sv_in (k := k + 5) h⟩)
  · refine sv_xvt hv ?_
    refine br_f (by decide) ?_
    rcases sv_io v2 (n := 3) (by decide) with z | ⟨u, hu, rfl⟩
    · refine sv_xvf z ?_
      refine br_t rfl ?_
      refine br_f (nI_pos (by omega)) (br_f (sv_n23 hv) ?_)
      rcases sv_out3 z with y | ⟨y1, y2⟩
      · exact br_t y ⟨rfl, sv_in (k := k + 5) h⟩
      · exact br_f y1 (br_f (fun q => sv_le2.mp q (sv_23.mp y2)) ⟨rfl, sv_in (k := k + 5) h⟩)
    · refine sv_xvt hu ?_
      refine br_f (by decide) ?_
      refine sv_xsolve a1 a2 a3 a4 a5 a6 a9 a8 a7 a10 a11 ?_
      intro oc' ct' od' ow' wh' lf' rt' jo' ta' tb' th' cn' al' fo' ts' hK
      have ei : nI v * 3 + nI u = nI (v * 3 + u) := by
        have : nI v * 3 = nI (v * 3) := pk_mul v 3
        rw [this, nI_add]
      have ec : al' (nI (v * 3 + u)).toNatClampNeg = nI (sv_ct (fun w => sv_Q (sv_SO U C F G) V T S w && decide (sv_dg v w = sv_dg u w)) 3375) := by rw [nI_clamp (by omega)]; exact hK.2.2.1 v u hv hu
      rw [ei]
      refine And.intro (vp_in_nI (by omega) (by decide)) ?_
      rw [ec]
      refine br_f (nI_pos (by omega)) (br_f (sv_n23 hv) (br_f (nI_pos (by omega)) (br_t (nI_le (b := 2) (by omega) (by decide)) ?_)))
      refine sv_ycnt (x2 := -1) hv hu a9 a8 a7 a6 a10 (fun c => sv_sol (sv_SO U C F G) V T S c && decide (sv_dg v c = sv_dg u c)) (fun c _ hs => by rw [hs]; rfl) (fun c hc hs => Or.inl ⟨by decide, by rw [hs]; rfl⟩) ?_
      intro my' tg' wd'
      refine ⟨congrArg nI (sv_ct_eq fun c _ => ?_), sv_in (k := k + 5) ⟨a1, a2, a3, a4, a5, a6, a7, a8, a9, a10, Or.inr ⟨rfl, hK⟩⟩⟩
      unfold sv_Q
      exact (Bool.and_assoc _ _ _).symm
end
theorem i_vc_solutions {k : Nat} {u : SX} {v : SY} (I : i_Rel k u v) (hk : k + 5 ≤ 2560) : wpX_solutions (fun r u' => wpY_solutions (fun r' v' => r' = r ∧ i_Rel (k + 5) u' v') v) u := by
  refine sv_el (P := fun u v => wpX_solutions (fun r u' => wpY_solutions (fun r' v' => r' = r ∧ i_Rel (k + 5) u' v') v) u) ?_ I
  intros
  exact sv_vc_solutions (by assumption)
theorem i_vc_first {k : Nat} {u : SX} {v : SY} (I : i_Rel k u v) (hk : k + 5 ≤ 2560) (v1 : Int32) : wpX_first (fun r u' => wpY_first (fun r' v' => r' = r ∧ i_Rel (k + 5) u' v') v v1) u v1 := by
  refine sv_el (P := fun u v => wpX_first (fun r u' => wpY_first (fun r' v' => r' = r ∧ i_Rel (k + 5) u' v') v v1) u v1) ?_ I
  intros
  exact sv_vc_first (by assumption) v1
theorem i_vc_values {k : Nat} {u : SX} {v : SY} (I : i_Rel k u v) (hk : k + 5 ≤ 2560) (v1 : Int32) : wpX_values (fun r u' => wpY_values (fun r' v' => r' = r ∧ i_Rel (k + 5) u' v') v v1) u v1 := by
  refine sv_el (P := fun u v => wpX_values (fun r u' => wpY_values (fun r' v' => r' = r ∧ i_Rel (k + 5) u' v') v v1) u v1) ?_ I
  intros
  exact sv_vc_values (by assumption) v1
theorem i_vc_solutionsWith {k : Nat} {u : SX} {v : SY} (I : i_Rel k u v) (hk : k + 5 ≤ 2560) (v1 : Int32) (v2 : Int32) : wpX_solutionsWith (fun r u' => wpY_solutionsWith (fun r' v' => r' = r ∧ i_Rel (k + 5) u' v') v v1 v2) u v1 v2 := by
  refine sv_el (P := fun u v => wpX_solutionsWith (fun r u' => wpY_solutionsWith (fun r' v' => r' = r ∧ i_Rel (k + 5) u' v') v v1 v2) u v1 v2) ?_ I
  intros
  exact sv_vc_with (by assumption) v1 v2
theorem i_vc_solutionsAlike {k : Nat} {u : SX} {v : SY} (I : i_Rel k u v) (hk : k + 5 ≤ 2560) (v1 : Int32) (v2 : Int32) : wpX_solutionsAlike (fun r u' => wpY_solutionsAlike (fun r' v' => r' = r ∧ i_Rel (k + 5) u' v') v v1 v2) u v1 v2 := by
  refine sv_el (P := fun u v => wpX_solutionsAlike (fun r u' => wpY_solutionsAlike (fun r' v' => r' = r ∧ i_Rel (k + 5) u' v') v v1 v2) u v1 v2) ?_ I
  intros
  exact sv_vc_alike (by assumption) v1 v2
end
