section
/-! pure rows to paste: stores, nI and lN arithmetic, masks, shifts, narrowing, branches by naturals (pk_le, pk_lt, pk_eq), loops (lp1 .. lp16: the measure of the state; rp1 ..: recursion), negatives. Take what you need -/
theorem pk_us {f : Nat → Int32} {k : Nat} {x : Int32} : upd f k x k = x := if_pos rfl
theorem pk_un {f : Nat → Int32} {k j : Nat} {x : Int32} (h : j ≠ k) : upd f k x j = f j := if_neg h
theorem pk_uLs {f : Nat → Int64} {k : Nat} {x : Int64} : vp_updL f k x k = x := if_pos rfl
theorem pk_uLn {f : Nat → Int64} {k j : Nat} {x : Int64} (h : j ≠ k) : vp_updL f k x j = f j := if_neg h
theorem pk_sub {a b : Nat} (h : b ≤ a) : nI a - nI b = nI (a - b) := by
  obtain ⟨c, rfl⟩ : ∃ c, a = c + b := ⟨a - b, by omega⟩
  rw [← nI_add, Int32.add_sub_cancel, Nat.add_sub_cancel]
theorem pk_m1 (n : Nat) : nI (n + 1) + (-1) = nI n := by
  rw [← nI_1, Int32.add_assoc, show (1 : Int32) + (-1) = 0 from rfl, Int32.add_zero]
theorem pk_mul (a b : Nat) : nI a * nI b = nI (a * b) := (Int32.ofNat_mul a b).symm
theorem pk_div {a d : Nat} (ha : a < 2 ^ 31) (h0 : 0 < d) (hd : d < 2 ^ 31) : nI a / nI d = nI (a / d) := by
  apply Int32.toInt_inj.mp
  rw [lg_idiv_nonneg (by rw [nI_toInt ha]; omega) (by rw [nI_toInt hd]; omega), nI_toInt ha, nI_toInt hd, nI_toInt (Nat.lt_of_le_of_lt (Nat.div_le_self a d) ha)]
  first | rfl | exact (Int.natCast_ediv _ _).symm
theorem pk_rem {a d : Nat} (ha : a < 2 ^ 31) (h0 : 0 < d) (hd : d < 2 ^ 31) : nI a - nI a / nI d * nI d = nI (a % d) := by
  rw [pk_div ha h0 hd, pk_mul, pk_sub (Nat.div_mul_le_self a d)]
  exact congrArg nI (by have := Nat.div_add_mod' a d; omega)
theorem pk_sub_toInt {a b : Nat} (ha : a < 2 ^ 30) (hb : b < 2 ^ 30) : (nI a - nI b).toInt = (a : Int) - b := by
  rw [Int32.toInt_sub, nI_toInt (by omega), nI_toInt (by omega)]
  exact Int.bmod_eq_of_le (by omega) (by omega)
theorem pk_sneg {a b : Nat} (hb : b < 2 ^ 30) (h : a < b) : nI a - nI b < 0 := by
  rw [Int32.lt_iff_toInt_lt, pk_sub_toInt (by omega) hb, show (0 : Int32).toInt = 0 from by decide]
  omega
theorem pk_ix (x : Int32) {n : Nat} (hn : n < 2 ^ 31) : x < 0 ∨ nI n ≤ x ∨ ∃ j : Nat, j < n ∧ x = nI j := by
  by_cases h : x < 0
  · exact Or.inl h
  · obtain ⟨j, hj, rfl⟩ := nI_of h
    by_cases h2 : j < n
    · exact Or.inr (Or.inr ⟨j, h2, rfl⟩)
    · exact Or.inr (Or.inl (nI_le (by omega) hj))
theorem pk_le {x y : Int32} {A B : Prop} (a b : Nat) (f : a ≤ b → A) (g : b < a → B) (hx : x = nI a := by rfl) (hy : y = nI b := by rfl) (ha : a < 2 ^ 31 := by omega) (hb : b < 2 ^ 31 := by omega) : (x ≤ y → A) ∧ (¬ x ≤ y → B) := by
  subst hx hy
  rw [nI_leI ha hb]
  exact ⟨f, fun z => g (by omega)⟩
theorem pk_lt {x y : Int32} {A B : Prop} (a b : Nat) (f : a < b → A) (g : b ≤ a → B) (hx : x = nI a := by rfl) (hy : y = nI b := by rfl) (ha : a < 2 ^ 31 := by omega) (hb : b < 2 ^ 31 := by omega) : (x < y → A) ∧ (¬ x < y → B) := by
  subst hx hy
  rw [nI_ltI ha hb]
  exact ⟨f, fun z => g (by omega)⟩
theorem pk_eq {x y : Int32} {A B : Prop} (a b : Nat) (f : a = b → A) (g : a ≠ b → B) (hx : x = nI a := by rfl) (hy : y = nI b := by rfl) (ha : a < 2 ^ 31 := by omega) (hb : b < 2 ^ 31 := by omega) : (x = y → A) ∧ (¬ x = y → B) := by
  subst hx hy
  rw [nI_eq ha hb]
  exact ⟨f, g⟩
theorem pk_in {x : Int32} (n N : Nat) (h : n < N) (hx : x = nI n := by rfl) (hN : N < 2 ^ 31 := by omega) : vp_in x N := by
  subst hx
  exact vp_in_nI h hN
theorem pk_cl {x : Int32} (n : Nat) (hx : x = nI n := by rfl) (h : n < 2 ^ 31 := by omega) : x.toNatClampNeg = n := by
  subst hx
  exact nI_clamp h
theorem pk_tn {n : Nat} (h : n < 2 ^ 32) : (nI n).toBitVec.toNat = n := Nat.mod_eq_of_lt h
theorem pk_and (x : Int32) {m : Int32} (k : Nat) (hm : m.toBitVec.toNat = 2 ^ k - 1) : x &&& m = nI (x.toBitVec.toNat % 2 ^ k) := by
  apply Int32.toBitVec_inj.mp
  apply BitVec.eq_of_toNat_eq
  rw [Int32.toBitVec_and, BitVec.toNat_and, hm, Nat.and_two_pow_sub_one_eq_mod]
  show _ = (BitVec.ofNat 32 _).toNat
  rw [BitVec.toNat_ofNat]
  exact (Nat.mod_eq_of_lt (Nat.lt_of_le_of_lt (Nat.mod_le _ _) x.toBitVec.isLt)).symm
theorem pk_andN {n : Nat} (h : n < 2 ^ 32) {m : Int32} (k : Nat) (hm : m.toBitVec.toNat = 2 ^ k - 1) : nI n &&& m = nI (n % 2 ^ k) := by
  rw [pk_and _ k hm, pk_tn h]
theorem pk_andE (x : Int32) {m : Int32} (k : Nat) (hm : m.toBitVec.toNat = 2 ^ k - 1) : ∃ j : Nat, j < 2 ^ k ∧ x &&& m = nI j := ⟨_, Nat.mod_lt _ (Nat.two_pow_pos k), pk_and x k hm⟩
theorem pk_andIn (x : Int32) {m : Int32} (k : Nat) (hm : m.toBitVec.toNat = 2 ^ k - 1) (hk : k ≤ 30) : vp_in (x &&& m) (2 ^ k) := by
  obtain ⟨j, hj, e⟩ := pk_andE x k hm
  rw [e]
  exact vp_in_nI hj (Nat.lt_of_le_of_lt (Nat.pow_le_pow_right (by decide) hk) (by decide))
theorem pk_shl (a s : Int32) (k : Nat) (hs : (s.toBitVec.smod 32).toNat = k) : (a <<< s).toBitVec.toNat = a.toBitVec.toNat * 2 ^ k % 2 ^ 32 := by
  show (a.toBitVec <<< (s.toBitVec.smod 32).toNat).toNat = _
  rw [hs, BitVec.toNat_shiftLeft, Nat.shiftLeft_eq]
theorem pk_shlN {n : Nat} (s : Int32) (k : Nat) (hs : (s.toBitVec.smod 32).toNat = k) (h : n * 2 ^ k < 2 ^ 32) : nI n <<< s = nI (n * 2 ^ k) := by
  apply Int32.toBitVec_inj.mp
  apply BitVec.eq_of_toNat_eq
  have hn : n < 2 ^ 32 := Nat.lt_of_le_of_lt (Nat.le_mul_of_pos_right n (Nat.two_pow_pos k)) h
  rw [pk_shl _ _ k hs, pk_tn hn, pk_tn h, Nat.mod_eq_of_lt h]
theorem pk_shr (a s : Int32) (k : Nat) (hs : (s.toBitVec.smod 32).toNat = k) : (a >>> s).toInt = a.toInt >>> k := by
  show (a.toBitVec.sshiftRight (s.toBitVec.smod 32).toNat).toInt = _
  rw [hs, BitVec.toInt_sshiftRight]
  rfl
theorem pk_shrN {n : Nat} (h : n < 2 ^ 31) (s : Int32) (k : Nat) (hs : (s.toBitVec.smod 32).toNat = k) : nI n >>> s = nI (n / 2 ^ k) := by
  apply Int32.toInt_inj.mp
  have h2 : n / 2 ^ k ≤ n := Nat.div_le_self _ _
  rw [pk_shr _ _ k hs, nI_toInt h, nI_toInt (by omega), Int.shiftRight_eq_div_pow]
  rfl
theorem pk_ushr (x s : Int32) (k : Nat) (hs : ((s.toUInt32 &&& Int32.toUInt32 31).toBitVec % 32).toNat = k) : (x.toUInt32 >>> (s.toUInt32 &&& Int32.toUInt32 31)).toInt32.toBitVec.toNat = x.toBitVec.toNat / 2 ^ k := by
  have e : (x.toUInt32 >>> (s.toUInt32 &&& Int32.toUInt32 31)).toInt32.toBitVec = x.toBitVec >>> k := by
    rw [← hs]
    exact UInt32.toBitVec_shiftRight _ _
  rw [e, BitVec.toNat_ushiftRight, Nat.shiftRight_eq_div_pow]
theorem pk_ushrN {n : Nat} (hn : n < 2 ^ 32) (s : Int32) (k : Nat) (hs : ((s.toUInt32 &&& Int32.toUInt32 31).toBitVec % 32).toNat = k) : ((nI n).toUInt32 >>> (s.toUInt32 &&& Int32.toUInt32 31)).toInt32 = nI (n / 2 ^ k) := by
  apply Int32.toBitVec_inj.mp
  apply BitVec.eq_of_toNat_eq
  rw [pk_ushr _ s k hs, pk_tn hn, pk_tn (Nat.lt_of_le_of_lt (Nat.div_le_self _ _) hn)]
theorem pk_nb (z : Int32) : narrow .byte (.int z.toInt8.toInt32) = .int z.toInt8.toInt32 := congrArg Value.int (by simp)
theorem pk_ns (z : Int32) : narrow .short (.int z.toInt16.toInt32) = .int z.toInt16.toInt32 := congrArg Value.int (by simp)
theorem pk_fb (r : Int32) : fits .byte (.int r.toInt8.toInt32) = true := by
  have ⟨a, b⟩ := lg_i2b_range r
  have h1 : (-128 : Int32).toInt = -128 := by decide
  have h2 : (127 : Int32).toInt = 127 := by decide
  simp only [fits, Bool.and_eq_true, decide_eq_true_eq, Int32.le_iff_toInt_le, h1, h2]
  omega
theorem pk_fs (r : Int32) : fits .short (.int r.toInt16.toInt32) = true := by
  have ⟨a, b⟩ := lg_i2s_range r
  have h1 : (-32768 : Int32).toInt = -32768 := by decide
  have h2 : (32767 : Int32).toInt = 32767 := by decide
  simp only [fits, Bool.and_eq_true, decide_eq_true_eq, Int32.le_iff_toInt_le, h1, h2]
  omega
theorem pk_charN {q : Nat} (hq : q < 65536) : narrow .char (.int (nI q)) = .int (nI q) ∧ fits .char (.int (nI q)) = true := by
  constructor
  · have e : (nI q).toUInt32.toUInt16.toUInt32.toInt32 = nI q := by
      apply Int32.toBitVec_inj.mp
      apply BitVec.eq_of_toNat_eq
      show (nI q).toUInt32.toUInt16.toUInt32.toNat = q % 2 ^ 32
      rw [UInt16.toNat_toUInt32, UInt32.toNat_toUInt16, show (nI q).toUInt32.toNat = q % 2 ^ 32 from rfl]
      omega
    exact congrArg Value.int e
  · have a : (0 : Int32) ≤ nI q := nI_pos' (by omega)
    have b : nI q ≤ 65535 := nI_le (b := 65535) (by omega) (by decide)
    show (decide ((0 : Int32) ≤ nI q) && decide (nI q ≤ 65535)) = true
    rw [decide_eq_true a, decide_eq_true b]
    rfl
theorem pk_char (x : Int32) : (x.toUInt32 % 65536).toInt32 = nI (x.toBitVec.toNat % 65536) := by
  apply Int32.toBitVec_inj.mp
  apply BitVec.eq_of_toNat_eq
  rw [pk_tn (by omega)]
  show (x.toUInt32 % 65536).toNat = _
  rw [UInt32.toNat_mod]
  rfl
theorem pk_nc (x : Int32) : narrow .char (.int (x.toUInt32 % 65536).toInt32) = .int (x.toUInt32 % 65536).toInt32 := by
  rw [pk_char]
  exact (pk_charN (Nat.mod_lt _ (by decide))).1
theorem pk_fc (x : Int32) : fits .char (.int (x.toUInt32 % 65536).toInt32) = true := by
  rw [pk_char]
  exact (pk_charN (Nat.mod_lt _ (by decide))).2
theorem pk_vb (z : Int32) : vp_nar .byte z.toInt8.toInt32 = z.toInt8.toInt32 := by rw [vp_nar_byte]; simp
theorem pk_vs (z : Int32) : vp_nar .short z.toInt16.toInt32 = z.toInt16.toInt32 := by rw [vp_nar_short]; simp
theorem pk_vc (z : Int32) : vp_nar .char (z.toUInt32 % 65536).toInt32 = (z.toUInt32 % 65536).toInt32 := Value.int.inj (pk_nc z)
theorem pk_lT {n : Nat} (h : n < 2 ^ 63) : (lN n).toInt = (n : Int) := lg_ofNat_toInt h
theorem pk_lLT {a b : Nat} (ha : a < 2 ^ 63) (hb : b < 2 ^ 63) : lN a < lN b ↔ a < b := by
  rw [Int64.lt_iff_toInt_lt, pk_lT ha, pk_lT hb]; omega
theorem pk_lLE {a b : Nat} (ha : a < 2 ^ 63) (hb : b < 2 ^ 63) : lN a ≤ lN b ↔ a ≤ b := by
  rw [Int64.le_iff_toInt_le, pk_lT ha, pk_lT hb]; omega
theorem pk_lEQ {a b : Nat} (ha : a < 2 ^ 63) (hb : b < 2 ^ 63) : lN a = lN b ↔ a = b := by
  rw [← Int64.toInt_inj, pk_lT ha, pk_lT hb]; omega
theorem pk_lOf {x : Int64} (h : ¬ x < 0) : ∃ k : Nat, k < 2 ^ 63 ∧ x = lN k := by
  rw [Int64.lt_iff_toInt_lt] at h
  have h0 : (0 : Int64).toInt = 0 := by decide
  have hx := Int64.toInt_lt x
  refine ⟨x.toInt.toNat, by omega, Int64.toInt_inj.mp ?_⟩
  rw [pk_lT (by omega)]
  omega
theorem pk_lDiv {a b : Nat} (ha : a < 2 ^ 63) (h0 : 0 < b) (hb : b < 2 ^ 63) : lN a / lN b = lN (a / b) := by
  apply Int64.toInt_inj.mp
  rw [lg_ldiv_nonneg (by rw [pk_lT ha]; omega) (by rw [pk_lT hb]; omega), pk_lT ha, pk_lT hb, pk_lT (Nat.lt_of_le_of_lt (Nat.div_le_self a b) ha)]
  rfl
theorem pk_lRem {a b : Nat} (ha : a < 2 ^ 63) (h0 : 0 < b) (hb : b < 2 ^ 63) : lN a - lN a / lN b * lN b = lN (a % b) := by
  rw [pk_lDiv ha h0 hb, lN_mul, lN_sub (Nat.div_mul_le_self a b)]
  exact congrArg lN (by have := Nat.div_add_mod' a b; omega)
theorem pk_loop {σ : Type} (W : Nat → Nat → σ → Prop) (I : Nat → σ → Prop) (e i0 : Nat) (s : σ) (hi : i0 ≤ e) (h0 : I i0 s) (hx : ∀ n s, I e s → W (n + 1) e s)
    (hs : ∀ n i s, i < e → I i s → (∀ s', I (i + 1) s' → W n (i + 1) s') → W (n + 1) i s) : ∃ n, W n i0 s :=
  ⟨e + 1, loop_i W I e hx hs (e + 1) i0 s hi (by omega) h0⟩
theorem pk_loopD {σ : Type} (W : Nat → Nat → σ → Prop) (I : Nat → σ → Prop) (hx : ∀ n s, I 0 s → W (n + 1) 0 s)
    (hs : ∀ n i s, I (i + 1) s → (∀ s', I i s' → W n i s') → W (n + 1) (i + 1) s) : ∀ (e : Nat) (s : σ), I e s → W (e + 1) e s := by
  intro e
  induction e with
  | zero => exact fun s h => hx 0 s h
  | succ e ih => exact fun s h => hs (e + 1) e s h (fun s' h' => ih s' h')
theorem lp1 {A1 : Type} (W : Nat → A1 → Prop) (I : A1 → Prop) (μ : A1 → Nat) (hs : ∀ (n : Nat) (a1 : A1), I a1 → (∀ (b1 : A1), I b1 → μ b1 < μ a1 → W n b1) → W (n + 1) a1) (a1 : A1) (h : I a1) : ∃ n, W n a1 :=
  loop_m (σ := A1) (fun n s => W n s) (fun s => I s) (fun s => μ s) (fun n s hI hk => hs n s hI (fun b1 h9 hm => hk b1 h9 hm)) a1 h
theorem lp2 {A1 A2 : Type} (W : Nat → A1 → A2 → Prop) (I : A1 → A2 → Prop) (μ : A1 → A2 → Nat) (hs : ∀ (n : Nat) (a1 : A1) (a2 : A2), I a1 a2 → (∀ (b1 : A1) (b2 : A2), I b1 b2 → μ b1 b2 < μ a1 a2 → W n b1 b2) → W (n + 1) a1 a2) (a1 : A1) (a2 : A2) (h : I a1 a2) : ∃ n, W n a1 a2 :=
  loop_m (σ := A1 × A2) (fun n s => W n s.1 s.2) (fun s => I s.1 s.2) (fun s => μ s.1 s.2) (fun n s hI hk => hs n s.1 s.2 hI (fun b1 b2 h9 hm => hk (b1, b2) h9 hm)) (a1, a2) h
theorem lp3 {A1 A2 A3 : Type} (W : Nat → A1 → A2 → A3 → Prop) (I : A1 → A2 → A3 → Prop) (μ : A1 → A2 → A3 → Nat) (hs : ∀ (n : Nat) (a1 : A1) (a2 : A2) (a3 : A3), I a1 a2 a3 → (∀ (b1 : A1) (b2 : A2) (b3 : A3), I b1 b2 b3 → μ b1 b2 b3 < μ a1 a2 a3 → W n b1 b2 b3) → W (n + 1) a1 a2 a3) (a1 : A1) (a2 : A2) (a3 : A3) (h : I a1 a2 a3) : ∃ n, W n a1 a2 a3 :=
  loop_m (σ := A1 × A2 × A3) (fun n s => W n s.1 s.2.1 s.2.2) (fun s => I s.1 s.2.1 s.2.2) (fun s => μ s.1 s.2.1 s.2.2) (fun n s hI hk => hs n s.1 s.2.1 s.2.2 hI (fun b1 b2 b3 h9 hm => hk (b1, b2, b3) h9 hm)) (a1, a2, a3) h
theorem lp4 {A1 A2 A3 A4 : Type} (W : Nat → A1 → A2 → A3 → A4 → Prop) (I : A1 → A2 → A3 → A4 → Prop) (μ : A1 → A2 → A3 → A4 → Nat) (hs : ∀ (n : Nat) (a1 : A1) (a2 : A2) (a3 : A3) (a4 : A4), I a1 a2 a3 a4 → (∀ (b1 : A1) (b2 : A2) (b3 : A3) (b4 : A4), I b1 b2 b3 b4 → μ b1 b2 b3 b4 < μ a1 a2 a3 a4 → W n b1 b2 b3 b4) → W (n + 1) a1 a2 a3 a4) (a1 : A1) (a2 : A2) (a3 : A3) (a4 : A4) (h : I a1 a2 a3 a4) : ∃ n, W n a1 a2 a3 a4 :=
  loop_m (σ := A1 × A2 × A3 × A4) (fun n s => W n s.1 s.2.1 s.2.2.1 s.2.2.2) (fun s => I s.1 s.2.1 s.2.2.1 s.2.2.2) (fun s => μ s.1 s.2.1 s.2.2.1 s.2.2.2) (fun n s hI hk => hs n s.1 s.2.1 s.2.2.1 s.2.2.2 hI (fun b1 b2 b3 b4 h9 hm => hk (b1, b2, b3, b4) h9 hm)) (a1, a2, a3, a4) h
theorem lp5 {A1 A2 A3 A4 A5 : Type} (W : Nat → A1 → A2 → A3 → A4 → A5 → Prop) (I : A1 → A2 → A3 → A4 → A5 → Prop) (μ : A1 → A2 → A3 → A4 → A5 → Nat) (hs : ∀ (n : Nat) (a1 : A1) (a2 : A2) (a3 : A3) (a4 : A4) (a5 : A5), I a1 a2 a3 a4 a5 → (∀ (b1 : A1) (b2 : A2) (b3 : A3) (b4 : A4) (b5 : A5), I b1 b2 b3 b4 b5 → μ b1 b2 b3 b4 b5 < μ a1 a2 a3 a4 a5 → W n b1 b2 b3 b4 b5) → W (n + 1) a1 a2 a3 a4 a5) (a1 : A1) (a2 : A2) (a3 : A3) (a4 : A4) (a5 : A5) (h : I a1 a2 a3 a4 a5) : ∃ n, W n a1 a2 a3 a4 a5 :=
  loop_m (σ := A1 × A2 × A3 × A4 × A5) (fun n s => W n s.1 s.2.1 s.2.2.1 s.2.2.2.1 s.2.2.2.2) (fun s => I s.1 s.2.1 s.2.2.1 s.2.2.2.1 s.2.2.2.2) (fun s => μ s.1 s.2.1 s.2.2.1 s.2.2.2.1 s.2.2.2.2) (fun n s hI hk => hs n s.1 s.2.1 s.2.2.1 s.2.2.2.1 s.2.2.2.2 hI (fun b1 b2 b3 b4 b5 h9 hm => hk (b1, b2, b3, b4, b5) h9 hm)) (a1, a2, a3, a4, a5) h
theorem lp6 {A1 A2 A3 A4 A5 A6 : Type} (W : Nat → A1 → A2 → A3 → A4 → A5 → A6 → Prop) (I : A1 → A2 → A3 → A4 → A5 → A6 → Prop) (μ : A1 → A2 → A3 → A4 → A5 → A6 → Nat) (hs : ∀ (n : Nat) (a1 : A1) (a2 : A2) (a3 : A3) (a4 : A4) (a5 : A5) (a6 : A6), I a1 a2 a3 a4 a5 a6 → (∀ (b1 : A1) (b2 : A2) (b3 : A3) (b4 : A4) (b5 : A5) (b6 : A6), I b1 b2 b3 b4 b5 b6 → μ b1 b2 b3 b4 b5 b6 < μ a1 a2 a3 a4 a5 a6 → W n b1 b2 b3 b4 b5 b6) → W (n + 1) a1 a2 a3 a4 a5 a6) (a1 : A1) (a2 : A2) (a3 : A3) (a4 : A4) (a5 : A5) (a6 : A6) (h : I a1 a2 a3 a4 a5 a6) : ∃ n, W n a1 a2 a3 a4 a5 a6 :=
  loop_m (σ := A1 × A2 × A3 × A4 × A5 × A6) (fun n s => W n s.1 s.2.1 s.2.2.1 s.2.2.2.1 s.2.2.2.2.1 s.2.2.2.2.2) (fun s => I s.1 s.2.1 s.2.2.1 s.2.2.2.1 s.2.2.2.2.1 s.2.2.2.2.2) (fun s => μ s.1 s.2.1 s.2.2.1 s.2.2.2.1 s.2.2.2.2.1 s.2.2.2.2.2) (fun n s hI hk => hs n s.1 s.2.1 s.2.2.1 s.2.2.2.1 s.2.2.2.2.1 s.2.2.2.2.2 hI (fun b1 b2 b3 b4 b5 b6 h9 hm => hk (b1, b2, b3, b4, b5, b6) h9 hm)) (a1, a2, a3, a4, a5, a6) h
theorem lp7 {A1 A2 A3 A4 A5 A6 A7 : Type} (W : Nat → A1 → A2 → A3 → A4 → A5 → A6 → A7 → Prop) (I : A1 → A2 → A3 → A4 → A5 → A6 → A7 → Prop) (μ : A1 → A2 → A3 → A4 → A5 → A6 → A7 → Nat) (hs : ∀ (n : Nat) (a1 : A1) (a2 : A2) (a3 : A3) (a4 : A4) (a5 : A5) (a6 : A6) (a7 : A7), I a1 a2 a3 a4 a5 a6 a7 → (∀ (b1 : A1) (b2 : A2) (b3 : A3) (b4 : A4) (b5 : A5) (b6 : A6) (b7 : A7), I b1 b2 b3 b4 b5 b6 b7 → μ b1 b2 b3 b4 b5 b6 b7 < μ a1 a2 a3 a4 a5 a6 a7 → W n b1 b2 b3 b4 b5 b6 b7) → W (n + 1) a1 a2 a3 a4 a5 a6 a7) (a1 : A1) (a2 : A2) (a3 : A3) (a4 : A4) (a5 : A5) (a6 : A6) (a7 : A7) (h : I a1 a2 a3 a4 a5 a6 a7) : ∃ n, W n a1 a2 a3 a4 a5 a6 a7 :=
  loop_m (σ := A1 × A2 × A3 × A4 × A5 × A6 × A7) (fun n s => W n s.1 s.2.1 s.2.2.1 s.2.2.2.1 s.2.2.2.2.1 s.2.2.2.2.2.1 s.2.2.2.2.2.2) (fun s => I s.1 s.2.1 s.2.2.1 s.2.2.2.1 s.2.2.2.2.1 s.2.2.2.2.2.1 s.2.2.2.2.2.2) (fun s => μ s.1 s.2.1 s.2.2.1 s.2.2.2.1 s.2.2.2.2.1 s.2.2.2.2.2.1 s.2.2.2.2.2.2) (fun n s hI hk => hs n s.1 s.2.1 s.2.2.1 s.2.2.2.1 s.2.2.2.2.1 s.2.2.2.2.2.1 s.2.2.2.2.2.2 hI (fun b1 b2 b3 b4 b5 b6 b7 h9 hm => hk (b1, b2, b3, b4, b5, b6, b7) h9 hm)) (a1, a2, a3, a4, a5, a6, a7) h
theorem lp8 {A1 A2 A3 A4 A5 A6 A7 A8 : Type} (W : Nat → A1 → A2 → A3 → A4 → A5 → A6 → A7 → A8 → Prop) (I : A1 → A2 → A3 → A4 → A5 → A6 → A7 → A8 → Prop) (μ : A1 → A2 → A3 → A4 → A5 → A6 → A7 → A8 → Nat) (hs : ∀ (n : Nat) (a1 : A1) (a2 : A2) (a3 : A3) (a4 : A4) (a5 : A5) (a6 : A6) (a7 : A7) (a8 : A8), I a1 a2 a3 a4 a5 a6 a7 a8 → (∀ (b1 : A1) (b2 : A2) (b3 : A3) (b4 : A4) (b5 : A5) (b6 : A6) (b7 : A7) (b8 : A8), I b1 b2 b3 b4 b5 b6 b7 b8 → μ b1 b2 b3 b4 b5 b6 b7 b8 < μ a1 a2 a3 a4 a5 a6 a7 a8 → W n b1 b2 b3 b4 b5 b6 b7 b8) → W (n + 1) a1 a2 a3 a4 a5 a6 a7 a8) (a1 : A1) (a2 : A2) (a3 : A3) (a4 : A4) (a5 : A5) (a6 : A6) (a7 : A7) (a8 : A8) (h : I a1 a2 a3 a4 a5 a6 a7 a8) : ∃ n, W n a1 a2 a3 a4 a5 a6 a7 a8 :=
  loop_m (σ := A1 × A2 × A3 × A4 × A5 × A6 × A7 × A8) (fun n s => W n s.1 s.2.1 s.2.2.1 s.2.2.2.1 s.2.2.2.2.1 s.2.2.2.2.2.1 s.2.2.2.2.2.2.1 s.2.2.2.2.2.2.2) (fun s => I s.1 s.2.1 s.2.2.1 s.2.2.2.1 s.2.2.2.2.1 s.2.2.2.2.2.1 s.2.2.2.2.2.2.1 s.2.2.2.2.2.2.2) (fun s => μ s.1 s.2.1 s.2.2.1 s.2.2.2.1 s.2.2.2.2.1 s.2.2.2.2.2.1 s.2.2.2.2.2.2.1 s.2.2.2.2.2.2.2) (fun n s hI hk => hs n s.1 s.2.1 s.2.2.1 s.2.2.2.1 s.2.2.2.2.1 s.2.2.2.2.2.1 s.2.2.2.2.2.2.1 s.2.2.2.2.2.2.2 hI (fun b1 b2 b3 b4 b5 b6 b7 b8 h9 hm => hk (b1, b2, b3, b4, b5, b6, b7, b8) h9 hm)) (a1, a2, a3, a4, a5, a6, a7, a8) h
theorem lp9 {A1 A2 A3 A4 A5 A6 A7 A8 A9 : Type} (W : Nat → A1 → A2 → A3 → A4 → A5 → A6 → A7 → A8 → A9 → Prop) (I : A1 → A2 → A3 → A4 → A5 → A6 → A7 → A8 → A9 → Prop) (μ : A1 → A2 → A3 → A4 → A5 → A6 → A7 → A8 → A9 → Nat) (hs : ∀ (n : Nat) (a1 : A1) (a2 : A2) (a3 : A3) (a4 : A4) (a5 : A5) (a6 : A6) (a7 : A7) (a8 : A8) (a9 : A9), I a1 a2 a3 a4 a5 a6 a7 a8 a9 → (∀ (b1 : A1) (b2 : A2) (b3 : A3) (b4 : A4) (b5 : A5) (b6 : A6) (b7 : A7) (b8 : A8) (b9 : A9), I b1 b2 b3 b4 b5 b6 b7 b8 b9 → μ b1 b2 b3 b4 b5 b6 b7 b8 b9 < μ a1 a2 a3 a4 a5 a6 a7 a8 a9 → W n b1 b2 b3 b4 b5 b6 b7 b8 b9) → W (n + 1) a1 a2 a3 a4 a5 a6 a7 a8 a9) (a1 : A1) (a2 : A2) (a3 : A3) (a4 : A4) (a5 : A5) (a6 : A6) (a7 : A7) (a8 : A8) (a9 : A9) (h : I a1 a2 a3 a4 a5 a6 a7 a8 a9) : ∃ n, W n a1 a2 a3 a4 a5 a6 a7 a8 a9 :=
  loop_m (σ := A1 × A2 × A3 × A4 × A5 × A6 × A7 × A8 × A9) (fun n s => W n s.1 s.2.1 s.2.2.1 s.2.2.2.1 s.2.2.2.2.1 s.2.2.2.2.2.1 s.2.2.2.2.2.2.1 s.2.2.2.2.2.2.2.1 s.2.2.2.2.2.2.2.2) (fun s => I s.1 s.2.1 s.2.2.1 s.2.2.2.1 s.2.2.2.2.1 s.2.2.2.2.2.1 s.2.2.2.2.2.2.1 s.2.2.2.2.2.2.2.1 s.2.2.2.2.2.2.2.2) (fun s => μ s.1 s.2.1 s.2.2.1 s.2.2.2.1 s.2.2.2.2.1 s.2.2.2.2.2.1 s.2.2.2.2.2.2.1 s.2.2.2.2.2.2.2.1 s.2.2.2.2.2.2.2.2) (fun n s hI hk => hs n s.1 s.2.1 s.2.2.1 s.2.2.2.1 s.2.2.2.2.1 s.2.2.2.2.2.1 s.2.2.2.2.2.2.1 s.2.2.2.2.2.2.2.1 s.2.2.2.2.2.2.2.2 hI (fun b1 b2 b3 b4 b5 b6 b7 b8 b9 h9 hm => hk (b1, b2, b3, b4, b5, b6, b7, b8, b9) h9 hm)) (a1, a2, a3, a4, a5, a6, a7, a8, a9) h
theorem lp10 {A1 A2 A3 A4 A5 A6 A7 A8 A9 A10 : Type} (W : Nat → A1 → A2 → A3 → A4 → A5 → A6 → A7 → A8 → A9 → A10 → Prop) (I : A1 → A2 → A3 → A4 → A5 → A6 → A7 → A8 → A9 → A10 → Prop) (μ : A1 → A2 → A3 → A4 → A5 → A6 → A7 → A8 → A9 → A10 → Nat) (hs : ∀ (n : Nat) (a1 : A1) (a2 : A2) (a3 : A3) (a4 : A4) (a5 : A5) (a6 : A6) (a7 : A7) (a8 : A8) (a9 : A9) (a10 : A10), I a1 a2 a3 a4 a5 a6 a7 a8 a9 a10 → (∀ (b1 : A1) (b2 : A2) (b3 : A3) (b4 : A4) (b5 : A5) (b6 : A6) (b7 : A7) (b8 : A8) (b9 : A9) (b10 : A10), I b1 b2 b3 b4 b5 b6 b7 b8 b9 b10 → μ b1 b2 b3 b4 b5 b6 b7 b8 b9 b10 < μ a1 a2 a3 a4 a5 a6 a7 a8 a9 a10 → W n b1 b2 b3 b4 b5 b6 b7 b8 b9 b10) → W (n + 1) a1 a2 a3 a4 a5 a6 a7 a8 a9 a10) (a1 : A1) (a2 : A2) (a3 : A3) (a4 : A4) (a5 : A5) (a6 : A6) (a7 : A7) (a8 : A8) (a9 : A9) (a10 : A10) (h : I a1 a2 a3 a4 a5 a6 a7 a8 a9 a10) : ∃ n, W n a1 a2 a3 a4 a5 a6 a7 a8 a9 a10 :=
  loop_m (σ := A1 × A2 × A3 × A4 × A5 × A6 × A7 × A8 × A9 × A10) (fun n s => W n s.1 s.2.1 s.2.2.1 s.2.2.2.1 s.2.2.2.2.1 s.2.2.2.2.2.1 s.2.2.2.2.2.2.1 s.2.2.2.2.2.2.2.1 s.2.2.2.2.2.2.2.2.1 s.2.2.2.2.2.2.2.2.2) (fun s => I s.1 s.2.1 s.2.2.1 s.2.2.2.1 s.2.2.2.2.1 s.2.2.2.2.2.1 s.2.2.2.2.2.2.1 s.2.2.2.2.2.2.2.1 s.2.2.2.2.2.2.2.2.1 s.2.2.2.2.2.2.2.2.2) (fun s => μ s.1 s.2.1 s.2.2.1 s.2.2.2.1 s.2.2.2.2.1 s.2.2.2.2.2.1 s.2.2.2.2.2.2.1 s.2.2.2.2.2.2.2.1 s.2.2.2.2.2.2.2.2.1 s.2.2.2.2.2.2.2.2.2) (fun n s hI hk => hs n s.1 s.2.1 s.2.2.1 s.2.2.2.1 s.2.2.2.2.1 s.2.2.2.2.2.1 s.2.2.2.2.2.2.1 s.2.2.2.2.2.2.2.1 s.2.2.2.2.2.2.2.2.1 s.2.2.2.2.2.2.2.2.2 hI (fun b1 b2 b3 b4 b5 b6 b7 b8 b9 b10 h9 hm => hk (b1, b2, b3, b4, b5, b6, b7, b8, b9, b10) h9 hm)) (a1, a2, a3, a4, a5, a6, a7, a8, a9, a10) h
theorem lp11 {A1 A2 A3 A4 A5 A6 A7 A8 A9 A10 A11 : Type} (W : Nat → A1 → A2 → A3 → A4 → A5 → A6 → A7 → A8 → A9 → A10 → A11 → Prop) (I : A1 → A2 → A3 → A4 → A5 → A6 → A7 → A8 → A9 → A10 → A11 → Prop) (μ : A1 → A2 → A3 → A4 → A5 → A6 → A7 → A8 → A9 → A10 → A11 → Nat) (hs : ∀ (n : Nat) (a1 : A1) (a2 : A2) (a3 : A3) (a4 : A4) (a5 : A5) (a6 : A6) (a7 : A7) (a8 : A8) (a9 : A9) (a10 : A10) (a11 : A11), I a1 a2 a3 a4 a5 a6 a7 a8 a9 a10 a11 → (∀ (b1 : A1) (b2 : A2) (b3 : A3) (b4 : A4) (b5 : A5) (b6 : A6) (b7 : A7) (b8 : A8) (b9 : A9) (b10 : A10) (b11 : A11), I b1 b2 b3 b4 b5 b6 b7 b8 b9 b10 b11 → μ b1 b2 b3 b4 b5 b6 b7 b8 b9 b10 b11 < μ a1 a2 a3 a4 a5 a6 a7 a8 a9 a10 a11 → W n b1 b2 b3 b4 b5 b6 b7 b8 b9 b10 b11) → W (n + 1) a1 a2 a3 a4 a5 a6 a7 a8 a9 a10 a11) (a1 : A1) (a2 : A2) (a3 : A3) (a4 : A4) (a5 : A5) (a6 : A6) (a7 : A7) (a8 : A8) (a9 : A9) (a10 : A10) (a11 : A11) (h : I a1 a2 a3 a4 a5 a6 a7 a8 a9 a10 a11) : ∃ n, W n a1 a2 a3 a4 a5 a6 a7 a8 a9 a10 a11 :=
  loop_m (σ := A1 × A2 × A3 × A4 × A5 × A6 × A7 × A8 × A9 × A10 × A11) (fun n s => W n s.1 s.2.1 s.2.2.1 s.2.2.2.1 s.2.2.2.2.1 s.2.2.2.2.2.1 s.2.2.2.2.2.2.1 s.2.2.2.2.2.2.2.1 s.2.2.2.2.2.2.2.2.1 s.2.2.2.2.2.2.2.2.2.1 s.2.2.2.2.2.2.2.2.2.2) (fun s => I s.1 s.2.1 s.2.2.1 s.2.2.2.1 s.2.2.2.2.1 s.2.2.2.2.2.1 s.2.2.2.2.2.2.1 s.2.2.2.2.2.2.2.1 s.2.2.2.2.2.2.2.2.1 s.2.2.2.2.2.2.2.2.2.1 s.2.2.2.2.2.2.2.2.2.2) (fun s => μ s.1 s.2.1 s.2.2.1 s.2.2.2.1 s.2.2.2.2.1 s.2.2.2.2.2.1 s.2.2.2.2.2.2.1 s.2.2.2.2.2.2.2.1 s.2.2.2.2.2.2.2.2.1 s.2.2.2.2.2.2.2.2.2.1 s.2.2.2.2.2.2.2.2.2.2) (fun n s hI hk => hs n s.1 s.2.1 s.2.2.1 s.2.2.2.1 s.2.2.2.2.1 s.2.2.2.2.2.1 s.2.2.2.2.2.2.1 s.2.2.2.2.2.2.2.1 s.2.2.2.2.2.2.2.2.1 s.2.2.2.2.2.2.2.2.2.1 s.2.2.2.2.2.2.2.2.2.2 hI (fun b1 b2 b3 b4 b5 b6 b7 b8 b9 b10 b11 h9 hm => hk (b1, b2, b3, b4, b5, b6, b7, b8, b9, b10, b11) h9 hm)) (a1, a2, a3, a4, a5, a6, a7, a8, a9, a10, a11) h
theorem lp12 {A1 A2 A3 A4 A5 A6 A7 A8 A9 A10 A11 A12 : Type} (W : Nat → A1 → A2 → A3 → A4 → A5 → A6 → A7 → A8 → A9 → A10 → A11 → A12 → Prop) (I : A1 → A2 → A3 → A4 → A5 → A6 → A7 → A8 → A9 → A10 → A11 → A12 → Prop) (μ : A1 → A2 → A3 → A4 → A5 → A6 → A7 → A8 → A9 → A10 → A11 → A12 → Nat) (hs : ∀ (n : Nat) (a1 : A1) (a2 : A2) (a3 : A3) (a4 : A4) (a5 : A5) (a6 : A6) (a7 : A7) (a8 : A8) (a9 : A9) (a10 : A10) (a11 : A11) (a12 : A12), I a1 a2 a3 a4 a5 a6 a7 a8 a9 a10 a11 a12 → (∀ (b1 : A1) (b2 : A2) (b3 : A3) (b4 : A4) (b5 : A5) (b6 : A6) (b7 : A7) (b8 : A8) (b9 : A9) (b10 : A10) (b11 : A11) (b12 : A12), I b1 b2 b3 b4 b5 b6 b7 b8 b9 b10 b11 b12 → μ b1 b2 b3 b4 b5 b6 b7 b8 b9 b10 b11 b12 < μ a1 a2 a3 a4 a5 a6 a7 a8 a9 a10 a11 a12 → W n b1 b2 b3 b4 b5 b6 b7 b8 b9 b10 b11 b12) → W (n + 1) a1 a2 a3 a4 a5 a6 a7 a8 a9 a10 a11 a12) (a1 : A1) (a2 : A2) (a3 : A3) (a4 : A4) (a5 : A5) (a6 : A6) (a7 : A7) (a8 : A8) (a9 : A9) (a10 : A10) (a11 : A11) (a12 : A12) (h : I a1 a2 a3 a4 a5 a6 a7 a8 a9 a10 a11 a12) : ∃ n, W n a1 a2 a3 a4 a5 a6 a7 a8 a9 a10 a11 a12 :=
  loop_m (σ := A1 × A2 × A3 × A4 × A5 × A6 × A7 × A8 × A9 × A10 × A11 × A12) (fun n s => W n s.1 s.2.1 s.2.2.1 s.2.2.2.1 s.2.2.2.2.1 s.2.2.2.2.2.1 s.2.2.2.2.2.2.1 s.2.2.2.2.2.2.2.1 s.2.2.2.2.2.2.2.2.1 s.2.2.2.2.2.2.2.2.2.1 s.2.2.2.2.2.2.2.2.2.2.1 s.2.2.2.2.2.2.2.2.2.2.2) (fun s => I s.1 s.2.1 s.2.2.1 s.2.2.2.1 s.2.2.2.2.1 s.2.2.2.2.2.1 s.2.2.2.2.2.2.1 s.2.2.2.2.2.2.2.1 s.2.2.2.2.2.2.2.2.1 s.2.2.2.2.2.2.2.2.2.1 s.2.2.2.2.2.2.2.2.2.2.1 s.2.2.2.2.2.2.2.2.2.2.2) (fun s => μ s.1 s.2.1 s.2.2.1 s.2.2.2.1 s.2.2.2.2.1 s.2.2.2.2.2.1 s.2.2.2.2.2.2.1 s.2.2.2.2.2.2.2.1 s.2.2.2.2.2.2.2.2.1 s.2.2.2.2.2.2.2.2.2.1 s.2.2.2.2.2.2.2.2.2.2.1 s.2.2.2.2.2.2.2.2.2.2.2) (fun n s hI hk => hs n s.1 s.2.1 s.2.2.1 s.2.2.2.1 s.2.2.2.2.1 s.2.2.2.2.2.1 s.2.2.2.2.2.2.1 s.2.2.2.2.2.2.2.1 s.2.2.2.2.2.2.2.2.1 s.2.2.2.2.2.2.2.2.2.1 s.2.2.2.2.2.2.2.2.2.2.1 s.2.2.2.2.2.2.2.2.2.2.2 hI (fun b1 b2 b3 b4 b5 b6 b7 b8 b9 b10 b11 b12 h9 hm => hk (b1, b2, b3, b4, b5, b6, b7, b8, b9, b10, b11, b12) h9 hm)) (a1, a2, a3, a4, a5, a6, a7, a8, a9, a10, a11, a12) h
theorem lp13 {A1 A2 A3 A4 A5 A6 A7 A8 A9 A10 A11 A12 A13 : Type} (W : Nat → A1 → A2 → A3 → A4 → A5 → A6 → A7 → A8 → A9 → A10 → A11 → A12 → A13 → Prop) (I : A1 → A2 → A3 → A4 → A5 → A6 → A7 → A8 → A9 → A10 → A11 → A12 → A13 → Prop) (μ : A1 → A2 → A3 → A4 → A5 → A6 → A7 → A8 → A9 → A10 → A11 → A12 → A13 → Nat) (hs : ∀ (n : Nat) (a1 : A1) (a2 : A2) (a3 : A3) (a4 : A4) (a5 : A5) (a6 : A6) (a7 : A7) (a8 : A8) (a9 : A9) (a10 : A10) (a11 : A11) (a12 : A12) (a13 : A13), I a1 a2 a3 a4 a5 a6 a7 a8 a9 a10 a11 a12 a13 → (∀ (b1 : A1) (b2 : A2) (b3 : A3) (b4 : A4) (b5 : A5) (b6 : A6) (b7 : A7) (b8 : A8) (b9 : A9) (b10 : A10) (b11 : A11) (b12 : A12) (b13 : A13), I b1 b2 b3 b4 b5 b6 b7 b8 b9 b10 b11 b12 b13 → μ b1 b2 b3 b4 b5 b6 b7 b8 b9 b10 b11 b12 b13 < μ a1 a2 a3 a4 a5 a6 a7 a8 a9 a10 a11 a12 a13 → W n b1 b2 b3 b4 b5 b6 b7 b8 b9 b10 b11 b12 b13) → W (n + 1) a1 a2 a3 a4 a5 a6 a7 a8 a9 a10 a11 a12 a13) (a1 : A1) (a2 : A2) (a3 : A3) (a4 : A4) (a5 : A5) (a6 : A6) (a7 : A7) (a8 : A8) (a9 : A9) (a10 : A10) (a11 : A11) (a12 : A12) (a13 : A13) (h : I a1 a2 a3 a4 a5 a6 a7 a8 a9 a10 a11 a12 a13) : ∃ n, W n a1 a2 a3 a4 a5 a6 a7 a8 a9 a10 a11 a12 a13 :=
  loop_m (σ := A1 × A2 × A3 × A4 × A5 × A6 × A7 × A8 × A9 × A10 × A11 × A12 × A13) (fun n s => W n s.1 s.2.1 s.2.2.1 s.2.2.2.1 s.2.2.2.2.1 s.2.2.2.2.2.1 s.2.2.2.2.2.2.1 s.2.2.2.2.2.2.2.1 s.2.2.2.2.2.2.2.2.1 s.2.2.2.2.2.2.2.2.2.1 s.2.2.2.2.2.2.2.2.2.2.1 s.2.2.2.2.2.2.2.2.2.2.2.1 s.2.2.2.2.2.2.2.2.2.2.2.2) (fun s => I s.1 s.2.1 s.2.2.1 s.2.2.2.1 s.2.2.2.2.1 s.2.2.2.2.2.1 s.2.2.2.2.2.2.1 s.2.2.2.2.2.2.2.1 s.2.2.2.2.2.2.2.2.1 s.2.2.2.2.2.2.2.2.2.1 s.2.2.2.2.2.2.2.2.2.2.1 s.2.2.2.2.2.2.2.2.2.2.2.1 s.2.2.2.2.2.2.2.2.2.2.2.2) (fun s => μ s.1 s.2.1 s.2.2.1 s.2.2.2.1 s.2.2.2.2.1 s.2.2.2.2.2.1 s.2.2.2.2.2.2.1 s.2.2.2.2.2.2.2.1 s.2.2.2.2.2.2.2.2.1 s.2.2.2.2.2.2.2.2.2.1 s.2.2.2.2.2.2.2.2.2.2.1 s.2.2.2.2.2.2.2.2.2.2.2.1 s.2.2.2.2.2.2.2.2.2.2.2.2) (fun n s hI hk => hs n s.1 s.2.1 s.2.2.1 s.2.2.2.1 s.2.2.2.2.1 s.2.2.2.2.2.1 s.2.2.2.2.2.2.1 s.2.2.2.2.2.2.2.1 s.2.2.2.2.2.2.2.2.1 s.2.2.2.2.2.2.2.2.2.1 s.2.2.2.2.2.2.2.2.2.2.1 s.2.2.2.2.2.2.2.2.2.2.2.1 s.2.2.2.2.2.2.2.2.2.2.2.2 hI (fun b1 b2 b3 b4 b5 b6 b7 b8 b9 b10 b11 b12 b13 h9 hm => hk (b1, b2, b3, b4, b5, b6, b7, b8, b9, b10, b11, b12, b13) h9 hm)) (a1, a2, a3, a4, a5, a6, a7, a8, a9, a10, a11, a12, a13) h
theorem lp14 {A1 A2 A3 A4 A5 A6 A7 A8 A9 A10 A11 A12 A13 A14 : Type} (W : Nat → A1 → A2 → A3 → A4 → A5 → A6 → A7 → A8 → A9 → A10 → A11 → A12 → A13 → A14 → Prop) (I : A1 → A2 → A3 → A4 → A5 → A6 → A7 → A8 → A9 → A10 → A11 → A12 → A13 → A14 → Prop) (μ : A1 → A2 → A3 → A4 → A5 → A6 → A7 → A8 → A9 → A10 → A11 → A12 → A13 → A14 → Nat) (hs : ∀ (n : Nat) (a1 : A1) (a2 : A2) (a3 : A3) (a4 : A4) (a5 : A5) (a6 : A6) (a7 : A7) (a8 : A8) (a9 : A9) (a10 : A10) (a11 : A11) (a12 : A12) (a13 : A13) (a14 : A14), I a1 a2 a3 a4 a5 a6 a7 a8 a9 a10 a11 a12 a13 a14 → (∀ (b1 : A1) (b2 : A2) (b3 : A3) (b4 : A4) (b5 : A5) (b6 : A6) (b7 : A7) (b8 : A8) (b9 : A9) (b10 : A10) (b11 : A11) (b12 : A12) (b13 : A13) (b14 : A14), I b1 b2 b3 b4 b5 b6 b7 b8 b9 b10 b11 b12 b13 b14 → μ b1 b2 b3 b4 b5 b6 b7 b8 b9 b10 b11 b12 b13 b14 < μ a1 a2 a3 a4 a5 a6 a7 a8 a9 a10 a11 a12 a13 a14 → W n b1 b2 b3 b4 b5 b6 b7 b8 b9 b10 b11 b12 b13 b14) → W (n + 1) a1 a2 a3 a4 a5 a6 a7 a8 a9 a10 a11 a12 a13 a14) (a1 : A1) (a2 : A2) (a3 : A3) (a4 : A4) (a5 : A5) (a6 : A6) (a7 : A7) (a8 : A8) (a9 : A9) (a10 : A10) (a11 : A11) (a12 : A12) (a13 : A13) (a14 : A14) (h : I a1 a2 a3 a4 a5 a6 a7 a8 a9 a10 a11 a12 a13 a14) : ∃ n, W n a1 a2 a3 a4 a5 a6 a7 a8 a9 a10 a11 a12 a13 a14 :=
  loop_m (σ := A1 × A2 × A3 × A4 × A5 × A6 × A7 × A8 × A9 × A10 × A11 × A12 × A13 × A14) (fun n s => W n s.1 s.2.1 s.2.2.1 s.2.2.2.1 s.2.2.2.2.1 s.2.2.2.2.2.1 s.2.2.2.2.2.2.1 s.2.2.2.2.2.2.2.1 s.2.2.2.2.2.2.2.2.1 s.2.2.2.2.2.2.2.2.2.1 s.2.2.2.2.2.2.2.2.2.2.1 s.2.2.2.2.2.2.2.2.2.2.2.1 s.2.2.2.2.2.2.2.2.2.2.2.2.1 s.2.2.2.2.2.2.2.2.2.2.2.2.2) (fun s => I s.1 s.2.1 s.2.2.1 s.2.2.2.1 s.2.2.2.2.1 s.2.2.2.2.2.1 s.2.2.2.2.2.2.1 s.2.2.2.2.2.2.2.1 s.2.2.2.2.2.2.2.2.1 s.2.2.2.2.2.2.2.2.2.1 s.2.2.2.2.2.2.2.2.2.2.1 s.2.2.2.2.2.2.2.2.2.2.2.1 s.2.2.2.2.2.2.2.2.2.2.2.2.1 s.2.2.2.2.2.2.2.2.2.2.2.2.2) (fun s => μ s.1 s.2.1 s.2.2.1 s.2.2.2.1 s.2.2.2.2.1 s.2.2.2.2.2.1 s.2.2.2.2.2.2.1 s.2.2.2.2.2.2.2.1 s.2.2.2.2.2.2.2.2.1 s.2.2.2.2.2.2.2.2.2.1 s.2.2.2.2.2.2.2.2.2.2.1 s.2.2.2.2.2.2.2.2.2.2.2.1 s.2.2.2.2.2.2.2.2.2.2.2.2.1 s.2.2.2.2.2.2.2.2.2.2.2.2.2) (fun n s hI hk => hs n s.1 s.2.1 s.2.2.1 s.2.2.2.1 s.2.2.2.2.1 s.2.2.2.2.2.1 s.2.2.2.2.2.2.1 s.2.2.2.2.2.2.2.1 s.2.2.2.2.2.2.2.2.1 s.2.2.2.2.2.2.2.2.2.1 s.2.2.2.2.2.2.2.2.2.2.1 s.2.2.2.2.2.2.2.2.2.2.2.1 s.2.2.2.2.2.2.2.2.2.2.2.2.1 s.2.2.2.2.2.2.2.2.2.2.2.2.2 hI (fun b1 b2 b3 b4 b5 b6 b7 b8 b9 b10 b11 b12 b13 b14 h9 hm => hk (b1, b2, b3, b4, b5, b6, b7, b8, b9, b10, b11, b12, b13, b14) h9 hm)) (a1, a2, a3, a4, a5, a6, a7, a8, a9, a10, a11, a12, a13, a14) h
theorem lp15 {A1 A2 A3 A4 A5 A6 A7 A8 A9 A10 A11 A12 A13 A14 A15 : Type} (W : Nat → A1 → A2 → A3 → A4 → A5 → A6 → A7 → A8 → A9 → A10 → A11 → A12 → A13 → A14 → A15 → Prop) (I : A1 → A2 → A3 → A4 → A5 → A6 → A7 → A8 → A9 → A10 → A11 → A12 → A13 → A14 → A15 → Prop) (μ : A1 → A2 → A3 → A4 → A5 → A6 → A7 → A8 → A9 → A10 → A11 → A12 → A13 → A14 → A15 → Nat) (hs : ∀ (n : Nat) (a1 : A1) (a2 : A2) (a3 : A3) (a4 : A4) (a5 : A5) (a6 : A6) (a7 : A7) (a8 : A8) (a9 : A9) (a10 : A10) (a11 : A11) (a12 : A12) (a13 : A13) (a14 : A14) (a15 : A15), I a1 a2 a3 a4 a5 a6 a7 a8 a9 a10 a11 a12 a13 a14 a15 → (∀ (b1 : A1) (b2 : A2) (b3 : A3) (b4 : A4) (b5 : A5) (b6 : A6) (b7 : A7) (b8 : A8) (b9 : A9) (b10 : A10) (b11 : A11) (b12 : A12) (b13 : A13) (b14 : A14) (b15 : A15), I b1 b2 b3 b4 b5 b6 b7 b8 b9 b10 b11 b12 b13 b14 b15 → μ b1 b2 b3 b4 b5 b6 b7 b8 b9 b10 b11 b12 b13 b14 b15 < μ a1 a2 a3 a4 a5 a6 a7 a8 a9 a10 a11 a12 a13 a14 a15 → W n b1 b2 b3 b4 b5 b6 b7 b8 b9 b10 b11 b12 b13 b14 b15) → W (n + 1) a1 a2 a3 a4 a5 a6 a7 a8 a9 a10 a11 a12 a13 a14 a15) (a1 : A1) (a2 : A2) (a3 : A3) (a4 : A4) (a5 : A5) (a6 : A6) (a7 : A7) (a8 : A8) (a9 : A9) (a10 : A10) (a11 : A11) (a12 : A12) (a13 : A13) (a14 : A14) (a15 : A15) (h : I a1 a2 a3 a4 a5 a6 a7 a8 a9 a10 a11 a12 a13 a14 a15) : ∃ n, W n a1 a2 a3 a4 a5 a6 a7 a8 a9 a10 a11 a12 a13 a14 a15 :=
  loop_m (σ := A1 × A2 × A3 × A4 × A5 × A6 × A7 × A8 × A9 × A10 × A11 × A12 × A13 × A14 × A15) (fun n s => W n s.1 s.2.1 s.2.2.1 s.2.2.2.1 s.2.2.2.2.1 s.2.2.2.2.2.1 s.2.2.2.2.2.2.1 s.2.2.2.2.2.2.2.1 s.2.2.2.2.2.2.2.2.1 s.2.2.2.2.2.2.2.2.2.1 s.2.2.2.2.2.2.2.2.2.2.1 s.2.2.2.2.2.2.2.2.2.2.2.1 s.2.2.2.2.2.2.2.2.2.2.2.2.1 s.2.2.2.2.2.2.2.2.2.2.2.2.2.1 s.2.2.2.2.2.2.2.2.2.2.2.2.2.2) (fun s => I s.1 s.2.1 s.2.2.1 s.2.2.2.1 s.2.2.2.2.1 s.2.2.2.2.2.1 s.2.2.2.2.2.2.1 s.2.2.2.2.2.2.2.1 s.2.2.2.2.2.2.2.2.1 s.2.2.2.2.2.2.2.2.2.1 s.2.2.2.2.2.2.2.2.2.2.1 s.2.2.2.2.2.2.2.2.2.2.2.1 s.2.2.2.2.2.2.2.2.2.2.2.2.1 s.2.2.2.2.2.2.2.2.2.2.2.2.2.1 s.2.2.2.2.2.2.2.2.2.2.2.2.2.2) (fun s => μ s.1 s.2.1 s.2.2.1 s.2.2.2.1 s.2.2.2.2.1 s.2.2.2.2.2.1 s.2.2.2.2.2.2.1 s.2.2.2.2.2.2.2.1 s.2.2.2.2.2.2.2.2.1 s.2.2.2.2.2.2.2.2.2.1 s.2.2.2.2.2.2.2.2.2.2.1 s.2.2.2.2.2.2.2.2.2.2.2.1 s.2.2.2.2.2.2.2.2.2.2.2.2.1 s.2.2.2.2.2.2.2.2.2.2.2.2.2.1 s.2.2.2.2.2.2.2.2.2.2.2.2.2.2) (fun n s hI hk => hs n s.1 s.2.1 s.2.2.1 s.2.2.2.1 s.2.2.2.2.1 s.2.2.2.2.2.1 s.2.2.2.2.2.2.1 s.2.2.2.2.2.2.2.1 s.2.2.2.2.2.2.2.2.1 s.2.2.2.2.2.2.2.2.2.1 s.2.2.2.2.2.2.2.2.2.2.1 s.2.2.2.2.2.2.2.2.2.2.2.1 s.2.2.2.2.2.2.2.2.2.2.2.2.1 s.2.2.2.2.2.2.2.2.2.2.2.2.2.1 s.2.2.2.2.2.2.2.2.2.2.2.2.2.2 hI (fun b1 b2 b3 b4 b5 b6 b7 b8 b9 b10 b11 b12 b13 b14 b15 h9 hm => hk (b1, b2, b3, b4, b5, b6, b7, b8, b9, b10, b11, b12, b13, b14, b15) h9 hm)) (a1, a2, a3, a4, a5, a6, a7, a8, a9, a10, a11, a12, a13, a14, a15) h
theorem lp16 {A1 A2 A3 A4 A5 A6 A7 A8 A9 A10 A11 A12 A13 A14 A15 A16 : Type} (W : Nat → A1 → A2 → A3 → A4 → A5 → A6 → A7 → A8 → A9 → A10 → A11 → A12 → A13 → A14 → A15 → A16 → Prop) (I : A1 → A2 → A3 → A4 → A5 → A6 → A7 → A8 → A9 → A10 → A11 → A12 → A13 → A14 → A15 → A16 → Prop) (μ : A1 → A2 → A3 → A4 → A5 → A6 → A7 → A8 → A9 → A10 → A11 → A12 → A13 → A14 → A15 → A16 → Nat) (hs : ∀ (n : Nat) (a1 : A1) (a2 : A2) (a3 : A3) (a4 : A4) (a5 : A5) (a6 : A6) (a7 : A7) (a8 : A8) (a9 : A9) (a10 : A10) (a11 : A11) (a12 : A12) (a13 : A13) (a14 : A14) (a15 : A15) (a16 : A16), I a1 a2 a3 a4 a5 a6 a7 a8 a9 a10 a11 a12 a13 a14 a15 a16 → (∀ (b1 : A1) (b2 : A2) (b3 : A3) (b4 : A4) (b5 : A5) (b6 : A6) (b7 : A7) (b8 : A8) (b9 : A9) (b10 : A10) (b11 : A11) (b12 : A12) (b13 : A13) (b14 : A14) (b15 : A15) (b16 : A16), I b1 b2 b3 b4 b5 b6 b7 b8 b9 b10 b11 b12 b13 b14 b15 b16 → μ b1 b2 b3 b4 b5 b6 b7 b8 b9 b10 b11 b12 b13 b14 b15 b16 < μ a1 a2 a3 a4 a5 a6 a7 a8 a9 a10 a11 a12 a13 a14 a15 a16 → W n b1 b2 b3 b4 b5 b6 b7 b8 b9 b10 b11 b12 b13 b14 b15 b16) → W (n + 1) a1 a2 a3 a4 a5 a6 a7 a8 a9 a10 a11 a12 a13 a14 a15 a16) (a1 : A1) (a2 : A2) (a3 : A3) (a4 : A4) (a5 : A5) (a6 : A6) (a7 : A7) (a8 : A8) (a9 : A9) (a10 : A10) (a11 : A11) (a12 : A12) (a13 : A13) (a14 : A14) (a15 : A15) (a16 : A16) (h : I a1 a2 a3 a4 a5 a6 a7 a8 a9 a10 a11 a12 a13 a14 a15 a16) : ∃ n, W n a1 a2 a3 a4 a5 a6 a7 a8 a9 a10 a11 a12 a13 a14 a15 a16 :=
  loop_m (σ := A1 × A2 × A3 × A4 × A5 × A6 × A7 × A8 × A9 × A10 × A11 × A12 × A13 × A14 × A15 × A16) (fun n s => W n s.1 s.2.1 s.2.2.1 s.2.2.2.1 s.2.2.2.2.1 s.2.2.2.2.2.1 s.2.2.2.2.2.2.1 s.2.2.2.2.2.2.2.1 s.2.2.2.2.2.2.2.2.1 s.2.2.2.2.2.2.2.2.2.1 s.2.2.2.2.2.2.2.2.2.2.1 s.2.2.2.2.2.2.2.2.2.2.2.1 s.2.2.2.2.2.2.2.2.2.2.2.2.1 s.2.2.2.2.2.2.2.2.2.2.2.2.2.1 s.2.2.2.2.2.2.2.2.2.2.2.2.2.2.1 s.2.2.2.2.2.2.2.2.2.2.2.2.2.2.2) (fun s => I s.1 s.2.1 s.2.2.1 s.2.2.2.1 s.2.2.2.2.1 s.2.2.2.2.2.1 s.2.2.2.2.2.2.1 s.2.2.2.2.2.2.2.1 s.2.2.2.2.2.2.2.2.1 s.2.2.2.2.2.2.2.2.2.1 s.2.2.2.2.2.2.2.2.2.2.1 s.2.2.2.2.2.2.2.2.2.2.2.1 s.2.2.2.2.2.2.2.2.2.2.2.2.1 s.2.2.2.2.2.2.2.2.2.2.2.2.2.1 s.2.2.2.2.2.2.2.2.2.2.2.2.2.2.1 s.2.2.2.2.2.2.2.2.2.2.2.2.2.2.2) (fun s => μ s.1 s.2.1 s.2.2.1 s.2.2.2.1 s.2.2.2.2.1 s.2.2.2.2.2.1 s.2.2.2.2.2.2.1 s.2.2.2.2.2.2.2.1 s.2.2.2.2.2.2.2.2.1 s.2.2.2.2.2.2.2.2.2.1 s.2.2.2.2.2.2.2.2.2.2.1 s.2.2.2.2.2.2.2.2.2.2.2.1 s.2.2.2.2.2.2.2.2.2.2.2.2.1 s.2.2.2.2.2.2.2.2.2.2.2.2.2.1 s.2.2.2.2.2.2.2.2.2.2.2.2.2.2.1 s.2.2.2.2.2.2.2.2.2.2.2.2.2.2.2) (fun n s hI hk => hs n s.1 s.2.1 s.2.2.1 s.2.2.2.1 s.2.2.2.2.1 s.2.2.2.2.2.1 s.2.2.2.2.2.2.1 s.2.2.2.2.2.2.2.1 s.2.2.2.2.2.2.2.2.1 s.2.2.2.2.2.2.2.2.2.1 s.2.2.2.2.2.2.2.2.2.2.1 s.2.2.2.2.2.2.2.2.2.2.2.1 s.2.2.2.2.2.2.2.2.2.2.2.2.1 s.2.2.2.2.2.2.2.2.2.2.2.2.2.1 s.2.2.2.2.2.2.2.2.2.2.2.2.2.2.1 s.2.2.2.2.2.2.2.2.2.2.2.2.2.2.2 hI (fun b1 b2 b3 b4 b5 b6 b7 b8 b9 b10 b11 b12 b13 b14 b15 b16 h9 hm => hk (b1, b2, b3, b4, b5, b6, b7, b8, b9, b10, b11, b12, b13, b14, b15, b16) h9 hm)) (a1, a2, a3, a4, a5, a6, a7, a8, a9, a10, a11, a12, a13, a14, a15, a16) h
theorem pk_least (P : Nat → Prop) (h : ∃ k, P k) : ∃ k, P k ∧ ∀ j, j < k → ¬ P j := by
  obtain ⟨k, hk⟩ := h
  induction k using Nat.strongRecOn with
  | ind k ih =>
    by_cases e : ∃ j, j < k ∧ P j
    · obtain ⟨j, hj, pj⟩ := e
      exact ih j hj pj
    · exact ⟨k, hk, fun j hj pj => e ⟨j, hj, pj⟩⟩
theorem rp1 {ρ A1 : Type} (W : Nat → (ρ → Prop) → A1 → Prop) (ok : A1 → Prop) (μ : A1 → Nat) (val : A1 → ρ)
    (hs : ∀ (d : Nat) (post : ρ → Prop) (a1 : A1), ok a1 → post (val a1) → (∀ (post' : ρ → Prop) (b1 : A1), ok b1 → μ b1 < μ a1 → post' (val b1) → W d post' b1) → W (d + 1) post a1) :
    ∀ (d : Nat) (post : ρ → Prop) (a1 : A1), ok a1 → μ a1 < d → post (val a1) → W d post a1 := by
  intro d
  induction d with
  | zero => intro post a1 _ h; omega
  | succ d ih =>
    intro post a1 ho hm hp
    exact hs d post a1 ho hp (fun post' b1 ho' hm' hp' => ih post' b1 ho' (by omega) hp')
theorem rp2 {ρ A1 A2 : Type} (W : Nat → (ρ → Prop) → A1 → A2 → Prop) (ok : A1 → A2 → Prop) (μ : A1 → A2 → Nat) (val : A1 → A2 → ρ)
    (hs : ∀ (d : Nat) (post : ρ → Prop) (a1 : A1) (a2 : A2), ok a1 a2 → post (val a1 a2) → (∀ (post' : ρ → Prop) (b1 : A1) (b2 : A2), ok b1 b2 → μ b1 b2 < μ a1 a2 → post' (val b1 b2) → W d post' b1 b2) → W (d + 1) post a1 a2) :
    ∀ (d : Nat) (post : ρ → Prop) (a1 : A1) (a2 : A2), ok a1 a2 → μ a1 a2 < d → post (val a1 a2) → W d post a1 a2 := by
  intro d
  induction d with
  | zero => intro post a1 a2 _ h; omega
  | succ d ih =>
    intro post a1 a2 ho hm hp
    exact hs d post a1 a2 ho hp (fun post' b1 b2 ho' hm' hp' => ih post' b1 b2 ho' (by omega) hp')
theorem rp3 {ρ A1 A2 A3 : Type} (W : Nat → (ρ → Prop) → A1 → A2 → A3 → Prop) (ok : A1 → A2 → A3 → Prop) (μ : A1 → A2 → A3 → Nat) (val : A1 → A2 → A3 → ρ)
    (hs : ∀ (d : Nat) (post : ρ → Prop) (a1 : A1) (a2 : A2) (a3 : A3), ok a1 a2 a3 → post (val a1 a2 a3) → (∀ (post' : ρ → Prop) (b1 : A1) (b2 : A2) (b3 : A3), ok b1 b2 b3 → μ b1 b2 b3 < μ a1 a2 a3 → post' (val b1 b2 b3) → W d post' b1 b2 b3) → W (d + 1) post a1 a2 a3) :
    ∀ (d : Nat) (post : ρ → Prop) (a1 : A1) (a2 : A2) (a3 : A3), ok a1 a2 a3 → μ a1 a2 a3 < d → post (val a1 a2 a3) → W d post a1 a2 a3 := by
  intro d
  induction d with
  | zero => intro post a1 a2 a3 _ h; omega
  | succ d ih =>
    intro post a1 a2 a3 ho hm hp
    exact hs d post a1 a2 a3 ho hp (fun post' b1 b2 b3 ho' hm' hp' => ih post' b1 b2 b3 ho' (by omega) hp')
theorem rp4 {ρ A1 A2 A3 A4 : Type} (W : Nat → (ρ → Prop) → A1 → A2 → A3 → A4 → Prop) (ok : A1 → A2 → A3 → A4 → Prop) (μ : A1 → A2 → A3 → A4 → Nat) (val : A1 → A2 → A3 → A4 → ρ)
    (hs : ∀ (d : Nat) (post : ρ → Prop) (a1 : A1) (a2 : A2) (a3 : A3) (a4 : A4), ok a1 a2 a3 a4 → post (val a1 a2 a3 a4) → (∀ (post' : ρ → Prop) (b1 : A1) (b2 : A2) (b3 : A3) (b4 : A4), ok b1 b2 b3 b4 → μ b1 b2 b3 b4 < μ a1 a2 a3 a4 → post' (val b1 b2 b3 b4) → W d post' b1 b2 b3 b4) → W (d + 1) post a1 a2 a3 a4) :
    ∀ (d : Nat) (post : ρ → Prop) (a1 : A1) (a2 : A2) (a3 : A3) (a4 : A4), ok a1 a2 a3 a4 → μ a1 a2 a3 a4 < d → post (val a1 a2 a3 a4) → W d post a1 a2 a3 a4 := by
  intro d
  induction d with
  | zero => intro post a1 a2 a3 a4 _ h; omega
  | succ d ih =>
    intro post a1 a2 a3 a4 ho hm hp
    exact hs d post a1 a2 a3 a4 ho hp (fun post' b1 b2 b3 b4 ho' hm' hp' => ih post' b1 b2 b3 b4 ho' (by omega) hp')
theorem rp5 {ρ A1 A2 A3 A4 A5 : Type} (W : Nat → (ρ → Prop) → A1 → A2 → A3 → A4 → A5 → Prop) (ok : A1 → A2 → A3 → A4 → A5 → Prop) (μ : A1 → A2 → A3 → A4 → A5 → Nat) (val : A1 → A2 → A3 → A4 → A5 → ρ)
    (hs : ∀ (d : Nat) (post : ρ → Prop) (a1 : A1) (a2 : A2) (a3 : A3) (a4 : A4) (a5 : A5), ok a1 a2 a3 a4 a5 → post (val a1 a2 a3 a4 a5) → (∀ (post' : ρ → Prop) (b1 : A1) (b2 : A2) (b3 : A3) (b4 : A4) (b5 : A5), ok b1 b2 b3 b4 b5 → μ b1 b2 b3 b4 b5 < μ a1 a2 a3 a4 a5 → post' (val b1 b2 b3 b4 b5) → W d post' b1 b2 b3 b4 b5) → W (d + 1) post a1 a2 a3 a4 a5) :
    ∀ (d : Nat) (post : ρ → Prop) (a1 : A1) (a2 : A2) (a3 : A3) (a4 : A4) (a5 : A5), ok a1 a2 a3 a4 a5 → μ a1 a2 a3 a4 a5 < d → post (val a1 a2 a3 a4 a5) → W d post a1 a2 a3 a4 a5 := by
  intro d
  induction d with
  | zero => intro post a1 a2 a3 a4 a5 _ h; omega
  | succ d ih =>
    intro post a1 a2 a3 a4 a5 ho hm hp
    exact hs d post a1 a2 a3 a4 a5 ho hp (fun post' b1 b2 b3 b4 b5 ho' hm' hp' => ih post' b1 b2 b3 b4 b5 ho' (by omega) hp')
theorem rp6 {ρ A1 A2 A3 A4 A5 A6 : Type} (W : Nat → (ρ → Prop) → A1 → A2 → A3 → A4 → A5 → A6 → Prop) (ok : A1 → A2 → A3 → A4 → A5 → A6 → Prop) (μ : A1 → A2 → A3 → A4 → A5 → A6 → Nat) (val : A1 → A2 → A3 → A4 → A5 → A6 → ρ)
    (hs : ∀ (d : Nat) (post : ρ → Prop) (a1 : A1) (a2 : A2) (a3 : A3) (a4 : A4) (a5 : A5) (a6 : A6), ok a1 a2 a3 a4 a5 a6 → post (val a1 a2 a3 a4 a5 a6) → (∀ (post' : ρ → Prop) (b1 : A1) (b2 : A2) (b3 : A3) (b4 : A4) (b5 : A5) (b6 : A6), ok b1 b2 b3 b4 b5 b6 → μ b1 b2 b3 b4 b5 b6 < μ a1 a2 a3 a4 a5 a6 → post' (val b1 b2 b3 b4 b5 b6) → W d post' b1 b2 b3 b4 b5 b6) → W (d + 1) post a1 a2 a3 a4 a5 a6) :
    ∀ (d : Nat) (post : ρ → Prop) (a1 : A1) (a2 : A2) (a3 : A3) (a4 : A4) (a5 : A5) (a6 : A6), ok a1 a2 a3 a4 a5 a6 → μ a1 a2 a3 a4 a5 a6 < d → post (val a1 a2 a3 a4 a5 a6) → W d post a1 a2 a3 a4 a5 a6 := by
  intro d
  induction d with
  | zero => intro post a1 a2 a3 a4 a5 a6 _ h; omega
  | succ d ih =>
    intro post a1 a2 a3 a4 a5 a6 ho hm hp
    exact hs d post a1 a2 a3 a4 a5 a6 ho hp (fun post' b1 b2 b3 b4 b5 b6 ho' hm' hp' => ih post' b1 b2 b3 b4 b5 b6 ho' (by omega) hp')
theorem rec_p {σ ρ : Type} (W : Nat → (ρ → Prop) → σ → Prop) (ok : σ → Prop) (μ : σ → Nat) (val : σ → ρ)
    (hs : ∀ d s post, ok s → post (val s) → (∀ s' post', ok s' → μ s' < μ s → post' (val s') → W d post' s') → W (d + 1) post s) :
    ∀ d s post, ok s → μ s < d → post (val s) → W d post s := by
  intro d
  induction d with
  | zero => intro s post _ h; omega
  | succ d ih =>
    intro s post ho hm hp
    exact hs d s post ho hp (fun s' post' ho' hm' hp' => ih s' post' ho' (by omega) hp')
theorem rec_q {σ ρ : Type} (W : Nat → (ρ → Prop) → σ → Prop) (ok : σ → Prop) (μ : σ → Nat) (Q : σ → ρ → Prop)
    (hs : ∀ d s post, ok s → (∀ r, Q s r → post r) → (∀ s' post', ok s' → μ s' < μ s → (∀ r, Q s' r → post' r) → W d post' s') → W (d + 1) post s) :
    ∀ d s post, ok s → μ s < d → (∀ r, Q s r → post r) → W d post s := by
  intro d
  induction d with
  | zero => intro s post _ h; omega
  | succ d ih =>
    intro s post ho hm hp
    exact hs d s post ho hp (fun s' post' ho' hm' hp' => ih s' post' ho' (by omega) hp')
def bx_sum (f : Nat → Int32) : Nat → Int32
  | 0 => 0
  | n + 1 => bx_sum f n + f n
theorem ek_u {A : Prop} {B : Nat → Prop} {k N : Nat} (hk : k < N) (h : B k) : (some k = none → A) ∧ (∀ y : Nat, some k = some y → (y < N ∧ B y)) :=
  ⟨fun z => absurd z (Option.some_ne_none k), fun _ e => (by cases e; exact ⟨hk, h⟩)⟩
theorem ek_nu {A : Prop} {B : Nat → Prop} (h : A) : ((none : Option Nat) = none → A) ∧ (∀ y : Nat, (none : Option Nat) = some y → B y) :=
  ⟨fun _ => h, fun _ e => (by cases e)⟩
theorem ek_if {c d A B : Prop} (e : c ↔ d) (f : d → A) (g : ¬ d → B) : (c → A) ∧ (¬ c → B) :=
  ⟨fun z => f (e.mp z), fun z => g (fun y => z (e.mpr y))⟩
theorem ek_v {α : Sort _} {P : α → Prop} {a b : α} (e : a = b) (h : P b) : P a := e ▸ h
theorem co_some {x : Option Nat} {A : Prop} {B : Nat → Prop} (i : Nat) (h : B i) (hx : x = some i := by rfl) : (x = none → A) ∧ (∀ y : Nat, x = some y → B y) := by
  subst hx
  exact ⟨fun e => (nomatch e), fun y e => Option.some.inj e ▸ h⟩
theorem co_none {x : Option Nat} {A : Prop} {B : Nat → Prop} (h : A) (hx : x = none := by rfl) : (x = none → A) ∧ (∀ y : Nat, x = some y → B y) := by
  subst hx
  exact ⟨fun _ => h, fun y e => (nomatch e)⟩
theorem co_any {x : Option Nat} {A : Prop} {B : Nat → Prop} (hn : x = none → A) (hs : ∀ i : Nat, x = some i → B i) : (x = none → A) ∧ (∀ y : Nat, x = some y → B y) := ⟨hn, hs⟩
theorem co_2 {P : Nat → Prop} (h0 : P 0) (h1 : P 1) {i : Nat} (hi : i < 2) : P i :=
  match i, hi with
  | 0, _ => h0
  | 1, _ => h1
theorem co_3 {P : Nat → Prop} (h0 : P 0) (h1 : P 1) (h2 : P 2) {i : Nat} (hi : i < 3) : P i :=
  match i, hi with
  | 0, _ => h0
  | 1, _ => h1
  | 2, _ => h2
theorem co_4 {P : Nat → Prop} (h0 : P 0) (h1 : P 1) (h2 : P 2) (h3 : P 3) {i : Nat} (hi : i < 4) : P i :=
  match i, hi with
  | 0, _ => h0
  | 1, _ => h1
  | 2, _ => h2
  | 3, _ => h3
theorem co_dec {N : Nat} {P : Nat → Prop} [DecidablePred P] (h : (List.range N).all (fun i => decide (P i)) = true) {i : Nat} (hi : i < N) : P i := by
  have := List.all_eq_true.mp h i (List.mem_range.mpr hi)
  exact of_decide_eq_true this
theorem co_tab {α : Type} {l : List α} {d : α} {P : α → Prop} (h : ∀ a, a ∈ l → P a) {i : Nat} (hi : i < l.length) : P (l.getD i d) := by
  rw [List.getD_eq_getElem?_getD, List.getElem?_eq_getElem hi]
  exact h _ (List.getElem_mem hi)
theorem pk_mu {x : Int32} {L : Nat} (h0 : ¬ x < 0) (h : ¬ nI L ≤ x) (hL : L < 2 ^ 31) : ∃ j : Nat, j < L ∧ x = nI j ∧ x + 1 = nI (j + 1) ∧ x.toNatClampNeg = j ∧ L - (x + 1).toNatClampNeg < L - x.toNatClampNeg := by
  obtain ⟨j, hj, rfl⟩ := nI_of h0
  have hl : j < L := Nat.not_le.mp fun q => h (nI_le q hj)
  refine ⟨j, hl, rfl, nI_1 j, nI_clamp hj, ?_⟩
  rw [nI_1, nI_clamp (by omega), nI_clamp hj]
  omega
theorem op_s {α : Type} {r : Option α} {A : Prop} {B : α → Prop} {y : α} (h : r = some y) (b : B y) : (r = none → A) ∧ ∀ z, r = some z → B z :=
  ⟨fun e => (by rw [h] at e; cases e), fun z e => (by rw [h] at e; cases e; exact b)⟩
def l_holds {α : Type} (a : Nat → Option Nat) (LP : List Nat) (p : Nat → α) (c : Nat) (b : Nat → α) : Prop :=
  ∀ j, j < c → ∃ y, a j = some y ∧ y ∈ LP ∧ p y = b j
theorem l_holds_0 {α : Type} {a : Nat → Option Nat} {LP : List Nat} {p b : Nat → α} : l_holds a LP p 0 b := fun j h => absurd h (Nat.not_lt_zero j)
theorem l_in_new (LP : List Nat) (q : Nat) : q ∈ LP ++ [q] := List.mem_append.mpr (Or.inr (List.mem_singleton.mpr rfl))
def l_sum (b : Nat → Int32) : Nat → Int32
  | 0 => 0
  | k + 1 => l_sum b k + b k
theorem sb_shr0 (x : Int32) : x >>> ((0 : Int32) &&& 31) = x := by
  rw [show ((0 : Int32) &&& 31) = 0 by decide]
  simp
theorem sb_shl0 (x : Int32) : x <<< ((0 : Int32) &&& 31) = x := by
  rw [show ((0 : Int32) &&& 31) = 0 by decide]
  simp
theorem sb_cl0 : (0 : Int32).toNatClampNeg = 0 := by decide
theorem sb_m1 {p : Nat} (h : 0 < p) : nI p + (-1) = nI (p - 1) := by
  obtain ⟨q, rfl⟩ : ∃ q, p = q + 1 := ⟨p - 1, by omega⟩
  exact pk_m1 q
def sb_b (c : Nat) : Int32 := (nI c).toInt8.toInt32
theorem sb_byte : ∀ c, c < 256 → sb_b c &&& 255 = nI c ∧ ((nI c).toUInt32 % 65536).toInt32 = nI c ∧ nI c ≤ 255 := by decide +kernel
def sb_Fit (a : Nat → Int32) : Prop := ∀ j, fits .byte (.int (a j)) = true
def sb_Lat (t : Nat → Nat) (n : Nat) (a : Nat → Int32) : Prop := ∀ j, j < n → t j < 256 ∧ a j = sb_b (t j)
theorem sb_fitB (c : Nat) : fits .byte (.int (sb_b c)) = true := pk_fb _
theorem sb_fit0 : sb_Fit (fun _ => 0) := fun _ => by
  show fits .byte (.int 0) = true
  decide
theorem sb_fitU {a : Nat → Int32} {k : Nat} {x : Int32} (h : sb_Fit a) (hx : fits .byte (.int x) = true) : sb_Fit (upd a k x) := by
  intro j
  by_cases e : j = k
  · subst e
    rw [pk_us]
    exact hx
  · rw [pk_un e]
    exact h j
def sb_cat (t : Nat → Nat) (n : Nat) (s : Nat → Nat) : Nat → Nat := fun j => if j < n then t j else s (j - n)
theorem sb_cat_lo {t s : Nat → Nat} {n j : Nat} (h : j < n) : sb_cat t n s j = t j := if_pos h
theorem sb_cat_hi {t s : Nat → Nat} {n j : Nat} : sb_cat t n s (n + j) = s j := by
  show (if n + j < n then t (n + j) else s (n + j - n)) = s j
  rw [if_neg (by omega), Nat.add_sub_cancel_left]
theorem sb_latPut {t s : Nat → Nat} {n w : Nat} {a a' : Nat → Int32} (h : sb_Lat t n a) (hk : ∀ j, j < n → a' j = a j) (hs : ∀ i, i < w → s i < 256 ∧ a' (n + i) = sb_b (s i)) : sb_Lat (sb_cat t n s) (n + w) a' := by
  intro j hj
  by_cases e : j < n
  · rw [sb_cat_lo e, hk j e]
    exact h j e
  · obtain ⟨i, rfl⟩ : ∃ i, j = n + i := ⟨j - n, by omega⟩
    rw [sb_cat_hi]
    exact hs i (by omega)
theorem sb_latKeep {t : Nat → Nat} {n : Nat} {a a' : Nat → Int32} (h : sb_Lat t n a) (hk : ∀ j, j < n → a' j = a j) : sb_Lat t n a' := fun j hj => by
  rw [hk j hj]
  exact h j hj
def sb_cap (q m : Nat) : Nat := if q ≤ m then m else if 2 * m + 2 < q then q else 2 * m + 2
def sb_Room (q m mc ms : Nat) : Prop := q ≤ m ∨ (1 ≤ mc ∧ sb_cap q m ≤ ms ∧ sb_cap q m ≤ 65536)
theorem sb_cap_ge (q m : Nat) : q ≤ sb_cap q m := by
  unfold sb_cap
  split
  · omega
  · split <;> omega
theorem sb_cap_gem (q m : Nat) : m ≤ sb_cap q m := by
  unfold sb_cap
  split
  · omega
  · split <;> omega
theorem sb_cap_le {q m mc ms : Nat} (hm : m ≤ 65536) (hr : sb_Room q m mc ms) : sb_cap q m ≤ 65536 := by
  rcases hr with h | h
  · rw [sb_cap, if_pos h]
    exact hm
  · exact h.2.2
theorem sb_at {P : Int32 → Prop} {x y : Int32} (e : x = y) (h : P y) : P x := e ▸ h
def sb_dg (w : Nat) : Nat := if w < 10 then 1 else if w < 100 then 2 else if w < 1000 then 3 else if w < 10000 then 4 else if w < 100000 then 5 else if w < 1000000 then 6 else if w < 10000000 then 7 else if w < 100000000 then 8 else if w < 1000000000 then 9 else 10
def sb_dec (v : Nat) : Nat → Nat := fun i => 48 + v / 10 ^ (sb_dg v - 1 - i) % 10
theorem sb_dg_in (w : Nat) : 1 ≤ sb_dg w ∧ sb_dg w ≤ 10 := by
  unfold sb_dg
  constructor <;> (repeat' split) <;> omega
theorem sb_dg100 {w : Nat} (h : 100 ≤ w) (hw : w < 2 ^ 31) : sb_dg w = sb_dg (w / 100) + 2 := by
  rw [sb_dg, sb_dg, if_neg (show ¬ w < 10 by omega), if_neg (show ¬ w < 100 by omega)]
  by_cases h3 : w < 1000
  · rw [if_pos h3, if_pos (show w / 100 < 10 by omega)]
  rw [if_neg h3, if_neg (show ¬ w / 100 < 10 by omega)]
  by_cases h4 : w < 10000
  · rw [if_pos h4, if_pos (show w / 100 < 100 by omega)]
  rw [if_neg h4, if_neg (show ¬ w / 100 < 100 by omega)]
  by_cases h5 : w < 100000
  · rw [if_pos h5, if_pos (show w / 100 < 1000 by omega)]
  rw [if_neg h5, if_neg (show ¬ w / 100 < 1000 by omega)]
  by_cases h6 : w < 1000000
  · rw [if_pos h6, if_pos (show w / 100 < 10000 by omega)]
  rw [if_neg h6, if_neg (show ¬ w / 100 < 10000 by omega)]
  by_cases h7 : w < 10000000
  · rw [if_pos h7, if_pos (show w / 100 < 100000 by omega)]
  rw [if_neg h7, if_neg (show ¬ w / 100 < 100000 by omega)]
  by_cases h8 : w < 100000000
  · rw [if_pos h8, if_pos (show w / 100 < 1000000 by omega)]
  rw [if_neg h8, if_neg (show ¬ w / 100 < 1000000 by omega)]
  by_cases h9 : w < 1000000000
  · rw [if_pos h9, if_pos (show w / 100 < 10000000 by omega)]
  rw [if_neg h9, if_neg (show ¬ w / 100 < 10000000 by omega)]
  rw [if_pos (show w / 100 < 100000000 by omega)]
theorem sb_negT {w : Nat} (h : w < 2 ^ 31) : (-nI w).toInt = -(w : Int) := by
  rw [Int32.toInt_neg, nI_toInt h]
  exact Int.bmod_eq_of_le (by omega) (by omega)
theorem sb_nle {a b : Nat} (ha : a < 2 ^ 31) (hb : b < 2 ^ 31) : -nI a ≤ -nI b ↔ b ≤ a := by
  rw [Int32.le_iff_toInt_le, sb_negT ha, sb_negT hb]
  omega
theorem sb_nlt {a b : Nat} (ha : a < 2 ^ 31) (hb : b < 2 ^ 31) : -nI a < -nI b ↔ b < a := by
  rw [Int32.lt_iff_toInt_lt, sb_negT ha, sb_negT hb]
  omega
theorem sb_cmp {A B : Prop} {x : Int32} (v c : Nat) (f : c ≤ v → A) (g : v < c → B) (hv : v < 2 ^ 31) (hx : x = -nI c := by rfl) (hc : c < 2 ^ 31 := by omega) : (-nI v ≤ x → A) ∧ (¬ -nI v ≤ x → B) := by
  subst hx
  rw [sb_nle hv hc]
  exact ⟨f, fun z => g (by omega)⟩
theorem sb_ndiv {w : Nat} (hw : w < 2 ^ 31) : (-nI w) / 100 = -nI (w / 100) := by
  apply Int32.toInt_inj.mp
  have h100 : (100 : Int32).toInt = 100 := by decide
  rw [Int32.toInt_div, sb_negT hw, h100, sb_negT (by omega), Int.neg_tdiv, Int.tdiv_eq_ediv_of_nonneg (by omega), Int.bmod_eq_of_le (by omega) (by omega)]
  omega
theorem sb_nrem {w : Nat} (hw : w < 2 ^ 31) : (-nI (w / 100)) * 100 - (-nI w) = nI (w % 100) := by
  have h := pk_rem (a := w) (d := 100) hw (by decide) (by decide)
  rw [pk_div hw (by decide) (by decide)] at h
  rw [← h]
  show (-nI (w / 100)) * nI 100 - (-nI w) = nI w - nI (w / 100) * nI 100
  rw [Int32.neg_mul, Int32.sub_neg, Int32.add_comm, ← Int32.sub_eq_add_neg]
end
section
/-! walks over the wires of a circuit: lists of wire numbers -/
def rb_W (F T : Nat → Nat) (m : Nat) : Nat → Nat → List Nat → Prop
  | u, v, [] => u = v
  | u, v, i :: p => i < m ∧ F i = u ∧ rb_W F T m (T i) v p
def rb_r (w : Nat → Nat) : List Nat → Nat
  | [] => 0
  | i :: p => w i + rb_r w p
theorem rb_r_app (w : Nat → Nat) (p q : List Nat) : rb_r w (p ++ q) = rb_r w p + rb_r w q := by
  induction p with
  | nil => simp [rb_r]
  | cons i p ih => simp only [List.cons_append, rb_r, ih]; omega
theorem rb_r_mem (w : Nat → Nat) {i : Nat} : ∀ p : List Nat, i ∈ p → w i ≤ rb_r w p := by
  intro p
  induction p with
  | nil => intro h; cases h
  | cons j p ih =>
    intro h
    rcases List.mem_cons.mp h with rfl | h
    · simp only [rb_r]; omega
    · have := ih h; simp only [rb_r]; omega
section
variable {F T w d : Nat → Nat} {m n : Nat}
theorem rb_W_app : ∀ (p q : List Nat) (u v : Nat), rb_W F T m u v (p ++ q) ↔ ∃ x, rb_W F T m u x p ∧ rb_W F T m x v q := by
  intro p
  induction p with
  | nil =>
    intro q u v
    constructor
    · intro h; exact ⟨u, rfl, h⟩
    · intro ⟨x, e, h⟩
      have e : u = x := e
      rw [e]; exact h
  | cons i p ih =>
    intro q u v
    constructor
    · intro ⟨h1, h2, h3⟩
      obtain ⟨x, hx, hy⟩ := (ih q (T i) v).mp h3
      exact ⟨x, ⟨h1, h2, hx⟩, hy⟩
    · intro ⟨x, ⟨h1, h2, hx⟩, hy⟩
      exact ⟨h1, h2, (ih q (T i) v).mpr ⟨x, hx, hy⟩⟩
theorem rb_W_mem : ∀ (p : List Nat) (u v : Nat), rb_W F T m u v p → ∀ i, i ∈ p → i < m := by
  intro p
  induction p with
  | nil => intro u v _ i h; cases h
  | cons j p ih =>
    intro u v ⟨h1, _, h3⟩ i h
    rcases List.mem_cons.mp h with rfl | h
    · exact h1
    · exact ih _ _ h3 i h
theorem rb_W_end (hT : ∀ i, i < m → T i < n) : ∀ (p : List Nat) (u v : Nat), u < n → rb_W F T m u v p → v < n := by
  intro p
  induction p with
  | nil => intro u v hu h; have h : u = v := h; rw [← h]; exact hu
  | cons j p ih => intro u v _ ⟨h1, _, h3⟩; exact ih _ _ (hT j h1) h3
theorem rb_W_start (hF : ∀ i, i < m → F i < n) {p : List Nat} {u v : Nat} (hp : p ≠ []) (h : rb_W F T m u v p) : u < n := by
  cases p with
  | nil => exact absurd rfl hp
  | cons j p => rw [← h.2.1]; exact hF j h.1
theorem rb_W_one {i : Nat} (h : i < m) : rb_W F T m (F i) (T i) [i] := ⟨h, rfl, rfl⟩
/-- the walk's inner ends lie below k -/
def rb_I (T : Nat → Nat) (k : Nat) (p : List Nat) : Prop := ∀ i, i ∈ p.dropLast → T i < k
theorem rb_I_all (hT : ∀ i, i < m → T i < n) {u v : Nat} {p : List Nat} (h : rb_W F T m u v p) : rb_I T n p :=
  fun i hi => hT i (rb_W_mem p u v h i (List.dropLast_subset p hi))
theorem rb_I_mono {k k' : Nat} (hk : k ≤ k') {p : List Nat} (h : rb_I T k p) : rb_I T k' p := fun i hi => Nat.lt_of_lt_of_le (h i hi) hk
theorem rb_I_one (k i : Nat) : rb_I T k [i] := by intro j hj; simp at hj
theorem rb_W_last : ∀ (p : List Nat) (u v : Nat), rb_W F T m u v p → ∀ i, i ∈ p → i ∈ p.dropLast ∨ T i = v := by
  intro p
  induction p with
  | nil => intro u v _ i h; cases h
  | cons j p ih =>
    intro u v ⟨_, _, h3⟩ i h
    cases p with
    | nil =>
      have h3 : T j = v := h3
      rcases List.mem_cons.mp h with rfl | h
      · exact Or.inr h3
      · cases h
    | cons j' p =>
      rcases List.mem_cons.mp h with rfl | h
      · exact Or.inl (by simp [List.dropLast])
      · rcases ih _ _ h3 i h with h | h
        · exact Or.inl (by simp only [List.dropLast_cons_cons]; exact List.mem_cons_of_mem _ h)
        · exact Or.inr h
theorem rb_I_app {k x u v : Nat} {p q : List Nat} (hp : rb_W F T m u x p) (hq : q ≠ []) (hx : x < k) (h1 : rb_I T k p) (h2 : rb_I T k q) : rb_I T k (p ++ q) := by
  intro i hi
  rw [List.dropLast_append_of_ne_nil hq] at hi
  rcases List.mem_append.mp hi with hi | hi
  · rcases rb_W_last p u x hp i hi with h | h
    · exact h1 i h
    · rw [h]; exact hx
  · exact h2 i hi
/-- the first visit of k -/
theorem rb_I_split {k : Nat} : ∀ (p : List Nat) (u v : Nat), rb_W F T m u v p → rb_I T (k + 1) p →
    rb_I T k p ∨ ∃ p1 p2, p = p1 ++ p2 ∧ p1 ≠ [] ∧ p2 ≠ [] ∧ rb_W F T m u k p1 ∧ rb_W F T m k v p2 ∧ rb_I T k p1 ∧ rb_I T (k + 1) p2 := by
  intro p
  induction p with
  | nil => intro u v _ _; exact Or.inl (by intro i hi; cases hi)
  | cons j p ih =>
    intro u v h hI
    cases p with
    | nil => exact Or.inl (rb_I_one k j)
    | cons j' p =>
      have hI' : rb_I T (k + 1) (j' :: p) := fun i hi => hI i (by simp only [List.dropLast_cons_cons]; exact List.mem_cons_of_mem _ hi)
      have hj : T j < k + 1 := hI j (by simp [List.dropLast])
      by_cases e : T j = k
      · refine Or.inr ⟨[j], j' :: p, rfl, by simp, by simp, ⟨h.1, h.2.1, e⟩, ?_, rb_I_one k j, hI'⟩
        rw [← e]; exact h.2.2
      · rcases ih _ _ h.2.2 hI' with h1 | ⟨p1, p2, e1, n1, n2, w1, w2, i1, i2⟩
        · refine Or.inl ?_
          intro i hi
          simp only [List.dropLast_cons_cons] at hi
          rcases List.mem_cons.mp hi with rfl | hi
          · omega
          · exact h1 i hi
        · refine Or.inr ⟨j :: p1, p2, by rw [e1]; rfl, by simp, n2, ⟨h.1, h.2.1, w1⟩, w2, ?_, i2⟩
          intro i hi
          cases p1 with
          | nil => exact absurd rfl n1
          | cons a p1 =>
            simp only [List.dropLast_cons_cons] at hi
            rcases List.mem_cons.mp hi with rfl | hi
            · omega
            · exact i1 i hi
theorem rb_dup (f : Nat → Nat) : ∀ p : List Nat, (p.map f).Nodup ∨ ∃ l1 a l2 b l3, p = l1 ++ a :: (l2 ++ b :: l3) ∧ f a = f b := by
  intro p
  induction p with
  | nil => exact Or.inl (by simp)
  | cons a t ih =>
    by_cases h : f a ∈ t.map f
    · obtain ⟨b, hb, e⟩ := List.mem_map.mp h
      obtain ⟨s, l3, rfl⟩ := List.append_of_mem hb
      exact Or.inr ⟨[], a, s, b, l3, rfl, e.symm⟩
    · rcases ih with ih | ⟨l1, a', l2, b, l3, e, e'⟩
      · exact Or.inl (by rw [List.map_cons]; exact List.nodup_cons.mpr ⟨h, ih⟩)
      · exact Or.inr ⟨a :: l1, a', l2, b, l3, by rw [e]; rfl, e'⟩
theorem rb_pig : ∀ (n : Nat) (l : List Nat), l.Nodup → (∀ x, x ∈ l → x < n) → l.length ≤ n := by
  intro n
  induction n with
  | zero =>
    intro l _ h
    cases l with
    | nil => exact Nat.le_refl _
    | cons a l => exact absurd (h a (by simp)) (by omega)
  | succ n ih =>
    intro l hl h
    by_cases hn : n ∈ l
    · have h1 := ih (l.erase n) (hl.erase n) (by
        intro x hx
        have hx' := (List.Nodup.mem_erase_iff hl).mp hx
        have := h x hx'.2
        omega)
      rw [List.length_erase_of_mem hn] at h1
      omega
    · have := ih l hl (by
        intro x hx
        have h1 := h x hx
        have h2 : x ≠ n := fun e => hn (e ▸ hx)
        omega)
      omega
/-- a long walk goes round somewhere -/
theorem rb_cyc (hF : ∀ i, i < m → F i < n) (hT : ∀ i, i < m → T i < n) {u v : Nat} {p : List Nat} (hu : u < n) (h : rb_W F T m u v p) :
    p.length + 1 ≤ n ∨ ∃ l1 l2 l3 x, p = l1 ++ (l2 ++ l3) ∧ l2 ≠ [] ∧ rb_W F T m x x l2 := by
  rcases rb_dup F p with hd | ⟨l1, a, l2, b, l3, e, e'⟩
  · by_cases hv : v ∈ p.map F
    · right
      obtain ⟨a, ha, ea⟩ := List.mem_map.mp hv
      obtain ⟨s, t, rfl⟩ := List.append_of_mem ha
      obtain ⟨x, _, hx⟩ := (rb_W_app s (a :: t) u v).mp h
      refine ⟨s, a :: t, [], v, by simp, by simp, ?_⟩
      have : x = v := by rw [← hx.2.1]; exact ea
      rw [this] at hx; exact hx
    · left
      have h1 : (v :: p.map F).Nodup := List.nodup_cons.mpr ⟨hv, hd⟩
      have h2 := rb_pig n _ h1 (by
        intro x hx
        rcases List.mem_cons.mp hx with rfl | hx
        · exact rb_W_end hT p u x hu h
        · obtain ⟨a, ha, rfl⟩ := List.mem_map.mp hx
          exact hF a (rb_W_mem p u v h a ha))
      simpa using h2
  · right
    rw [e] at h
    obtain ⟨x, _, hx⟩ := (rb_W_app l1 _ u v).mp h
    have hx' : rb_W F T m x v ((a :: l2) ++ (b :: l3)) := hx
    obtain ⟨y, hy, hz⟩ := (rb_W_app (a :: l2) (b :: l3) x v).mp hx'
    refine ⟨l1, a :: l2, b :: l3, x, by rw [e]; rfl, by simp, ?_⟩
    have : y = x := by rw [← hz.2.1, ← hy.2.1]; exact e'.symm
    rw [this] at hy; exact hy
/-- no circle without registers -/
def rb_S (F T w : Nat → Nat) (m : Nat) : Prop := ∀ (x : Nat) (p : List Nat), p ≠ [] → rb_W F T m x x p → 1 ≤ rb_r w p
theorem rb_len0 (hF : ∀ i, i < m → F i < n) (hT : ∀ i, i < m → T i < n) (hS : rb_S F T w m) {u v : Nat} {p : List Nat} (hu : u < n)
    (h : rb_W F T m u v p) (hr : rb_r w p = 0) : p.length + 1 ≤ n := by
  rcases rb_cyc hF hT hu h with h1 | ⟨l1, l2, l3, x, e, hn, hx⟩
  · exact h1
  · have := hS x l2 hn hx
    rw [e, rb_r_app, rb_r_app] at hr
    omega
theorem rb_len (hF : ∀ i, i < m → F i < n) (hT : ∀ i, i < m → T i < n) (hS : rb_S F T w m) (hn : n ≤ 5) :
    ∀ (N : Nat) (p : List Nat) (u v : Nat), p.length ≤ N → u < n → rb_W F T m u v p → p.length ≤ 5 * rb_r w p + 4 := by
  intro N
  induction N with
  | zero => intro p u v hN _ _; omega
  | succ N ih =>
    intro p u v hN hu h
    by_cases h5 : p.length ≤ 4
    · omega
    · have e : p.take 5 ++ p.drop 5 = p := List.take_append_drop 5 p
      have l1 : (p.take 5).length = 5 := by rw [List.length_take]; omega
      have l2 : (p.drop 5).length = p.length - 5 := List.length_drop
      rw [← e] at h
      obtain ⟨x, hx, hy⟩ := (rb_W_app _ _ u v).mp h
      have hxn : x < n := rb_W_end hT _ u x hu hx
      have i1 := ih (p.drop 5) x v (by omega) hxn hy
      have i2 : 1 ≤ rb_r w (p.take 5) := by
        rcases Nat.eq_zero_or_pos (rb_r w (p.take 5)) with h0 | h0
        · have := rb_len0 hF hT hS hu hx h0
          omega
        · exact h0
      have i3 : rb_r w p = rb_r w (p.take 5) + rb_r w (p.drop 5) := by rw [← rb_r_app, e]
      omega
/-- every walk holds a simple one -/
theorem rb_simp (hF : ∀ i, i < m → F i < n) :
    ∀ (N : Nat) (p : List Nat) (u v : Nat), p.length ≤ N → p ≠ [] → rb_W F T m u v p →
    ∃ q, q ≠ [] ∧ rb_W F T m u v q ∧ rb_r w q ≤ rb_r w p ∧ (q.map F).Nodup ∧ (q.map T).Nodup ∧ q.length ≤ n := by
  intro N
  induction N with
  | zero => intro p u v hN hp _; cases p with
    | nil => exact absurd rfl hp
    | cons a p => simp at hN
  | succ N ih =>
    intro p u v hN hp h
    rcases rb_dup F p with hd | ⟨l1, a, l2, b, l3, e, e'⟩
    · rcases rb_dup T p with hd' | ⟨l1, a, l2, b, l3, e, e'⟩
      · refine ⟨p, hp, h, Nat.le_refl _, hd, hd', ?_⟩
        have := rb_pig n _ hd (by
          intro x hx
          obtain ⟨a, ha, rfl⟩ := List.mem_map.mp hx
          exact hF a (rb_W_mem p u v h a ha))
        simpa using this
      · rw [e] at h
        obtain ⟨x, hx1, hx2⟩ := (rb_W_app l1 _ u v).mp h
        obtain ⟨y, _, hy2⟩ := (rb_W_app l2 (b :: l3) (T a) v).mp hx2.2.2
        have hw : rb_W F T m u v (l1 ++ a :: l3) := (rb_W_app l1 _ u v).mpr ⟨x, hx1, hx2.1, hx2.2.1, by rw [e']; exact hy2.2.2⟩
        obtain ⟨q, q1, q2, q3, q4⟩ := ih (l1 ++ a :: l3) u v (by rw [e] at hN; simp at hN ⊢; omega) (by simp) hw
        refine ⟨q, q1, q2, ?_, q4⟩
        rw [e]
        simp only [rb_r_app, rb_r] at q3 ⊢
        omega
    · rw [e] at h
      obtain ⟨x, hx1, hx2⟩ := (rb_W_app l1 _ u v).mp h
      obtain ⟨y, _, hy2⟩ := (rb_W_app l2 (b :: l3) (T a) v).mp hx2.2.2
      have hw : rb_W F T m u v (l1 ++ b :: l3) := (rb_W_app l1 _ u v).mpr ⟨x, hx1, hy2.1, by rw [← e']; exact hx2.2.1, hy2.2.2⟩
      obtain ⟨q, q1, q2, q3, q4⟩ := ih (l1 ++ b :: l3) u v (by rw [e] at hN; simp at hN ⊢; omega) (by simp) hw
      refine ⟨q, q1, q2, ?_, q4⟩
      rw [e]
      simp only [rb_r_app, rb_r] at q3 ⊢
      omega
end
end
section
/-! drops of lags (t = - lag), periods, the least drop -/
def rb_L (F T w : Nat → Nat) (m : Nat) (t : Nat → Nat) : Prop := ∀ i, i < m → t (T i) ≤ w i + t (F i)
/-- t is a plan of period at most p -/
def rb_Fe (F T w d : Nat → Nat) (m n p : Nat) (t : Nat → Nat) : Prop :=
  rb_L F T w m t ∧ ∀ (u v : Nat) (q : List Nat), u < n → rb_W F T m u v q → rb_r w q + t u = t v → d u + rb_r (fun i => d (T i)) q ≤ p
/-- the least plan of period p -/
def rb_Le (F T w d : Nat → Nat) (m n p : Nat) (t : Nat → Nat) : Prop :=
  rb_Fe F T w d m n p t ∧ (∀ x, n ≤ x → t x = 0) ∧ ∀ t', rb_Fe F T w d m n p t' → ∀ x, x < n → t x ≤ t' x
/-- the best period and its least plan -/
def rb_Op (F T w d : Nat → Nat) (m n p : Nat) (t : Nat → Nat) : Prop :=
  rb_Le F T w d m n p t ∧ ∀ p' t', rb_Fe F T w d m n p' t' → p ≤ p'
def rb_sum (t : Nat → Nat) : Nat → Nat
  | 0 => 0
  | n + 1 => rb_sum t n + t n
theorem rb_sum_le {a b : Nat → Nat} : ∀ n, (∀ x, x < n → a x ≤ b x) → rb_sum a n ≤ rb_sum b n := by
  intro n
  induction n with
  | zero => intro _; exact Nat.le_refl _
  | succ n ih =>
    intro h
    have h1 := ih (fun x hx => h x (by omega))
    have h2 := h n (by omega)
    simp only [rb_sum]; omega
theorem rb_sum_eq {a b : Nat → Nat} : ∀ n, (∀ x, x < n → a x ≤ b x) → rb_sum b n ≤ rb_sum a n → ∀ x, x < n → b x ≤ a x := by
  intro n
  induction n with
  | zero => intro _ _ x hx; omega
  | succ n ih =>
    intro h hs x hx
    have h1 := rb_sum_le n (fun x hx => h x (by omega))
    have h2 := h n (by omega)
    simp only [rb_sum] at hs
    by_cases e : x = n
    · rw [e]; omega
    · exact ih (fun x hx => h x (by omega)) (by omega) x (by omega)
section
variable {F T w d : Nat → Nat} {m n p : Nat} {t t' : Nat → Nat}
theorem rb_Lw (h : rb_L F T w m t) : ∀ (q : List Nat) (u v : Nat), rb_W F T m u v q → t v ≤ rb_r w q + t u := by
  intro q
  induction q with
  | nil => intro u v e; have e : u = v := e; rw [e]; simp [rb_r]
  | cons i q ih =>
    intro u v ⟨h1, h2, h3⟩
    have := ih _ _ h3
    have := h i h1
    rw [h2] at this
    simp only [rb_r]; omega
theorem rb_Fe_mono {p' : Nat} (hp : p ≤ p') (h : rb_Fe F T w d m n p t) : rb_Fe F T w d m n p' t :=
  ⟨h.1, fun u v q hu hw he => Nat.le_trans (h.2 u v q hu hw he) hp⟩
theorem rb_Fe_min (h : rb_Fe F T w d m n p t) (h' : rb_Fe F T w d m n p t') : rb_Fe F T w d m n p (fun x => min (t x) (t' x)) := by
  refine ⟨?_, ?_⟩
  · intro i hi
    have := h.1 i hi
    have := h'.1 i hi
    show min (t (T i)) (t' (T i)) ≤ w i + min (t (F i)) (t' (F i))
    omega
  · intro u v q hu hw he
    have h1 := rb_Lw h.1 q u v hw
    have h2 := rb_Lw h'.1 q u v hw
    have he : rb_r w q + min (t u) (t' u) = min (t v) (t' v) := he
    by_cases hc : t u ≤ t' u
    · exact h.2 u v q hu hw (by omega)
    · exact h'.2 u v q hu hw (by omega)
/-- cut off behind the blocks -/
theorem rb_Fe_cut (hF : ∀ i, i < m → F i < n) (hT : ∀ i, i < m → T i < n) (h : rb_Fe F T w d m n p t) :
    rb_Fe F T w d m n p (fun x => if x < n then t x else 0) := by
  refine ⟨?_, ?_⟩
  · intro i hi
    show (if T i < n then t (T i) else 0) ≤ w i + (if F i < n then t (F i) else 0)
    rw [if_pos (hF i hi), if_pos (hT i hi)]
    exact h.1 i hi
  · intro u v q hu hw he
    have he : rb_r w q + (if u < n then t u else 0) = (if v < n then t v else 0) := he
    rw [if_pos hu, if_pos (rb_W_end hT q u v hu hw)] at he
    exact h.2 u v q hu hw he
theorem rb_Le_ex (hF : ∀ i, i < m → F i < n) (hT : ∀ i, i < m → T i < n) (h : rb_Fe F T w d m n p t) : ∃ t', rb_Le F T w d m n p t' := by
  obtain ⟨k, ⟨t1, f1, z1, s1⟩, hk⟩ := pk_least (fun k => ∃ t', rb_Fe F T w d m n p t' ∧ (∀ x, n ≤ x → t' x = 0) ∧ rb_sum t' n = k)
    ⟨_, _, rb_Fe_cut hF hT h, fun x hx => if_neg (by omega), rfl⟩
  refine ⟨t1, f1, z1, ?_⟩
  intro t2 f2
  have f3 := rb_Fe_min f1 f2
  have hle : ∀ x, x < n → (fun x => min (t1 x) (t2 x)) x ≤ t1 x := fun x _ => Nat.min_le_left _ _
  have hs : rb_sum t1 n ≤ rb_sum (fun x => min (t1 x) (t2 x)) n := by
    rcases Nat.lt_or_ge (rb_sum (fun x => min (t1 x) (t2 x)) n) (rb_sum t1 n) with hlt | hge
    · exact absurd ⟨_, f3, fun x hx => by show min (t1 x) (t2 x) = 0; rw [z1 x hx]; exact Nat.zero_min _, rfl⟩ (hk _ (by rw [← s1]; exact hlt))
    · exact hge
  intro x hx
  have := rb_sum_eq n hle hs x hx
  have : t1 x ≤ min (t1 x) (t2 x) := this
  omega
theorem rb_Op_ex (hF : ∀ i, i < m → F i < n) (hT : ∀ i, i < m → T i < n) (h : rb_Fe F T w d m n p t) : ∃ p' t', rb_Op F T w d m n p' t' := by
  obtain ⟨k, ⟨t1, f1⟩, hk⟩ := pk_least (fun k => ∃ t', rb_Fe F T w d m n k t') ⟨p, t, h⟩
  obtain ⟨t2, f2⟩ := rb_Le_ex hF hT f1
  refine ⟨k, t2, f2, ?_⟩
  intro p' t' f'
  rcases Nat.lt_or_ge p' k with hlt | hge
  · exact absurd ⟨t', f'⟩ (hk p' hlt)
  · exact hge
theorem rb_Le_un (h : rb_Le F T w d m n p t) (h' : rb_Le F T w d m n p t') : t = t' := by
  funext x
  by_cases hx : x < n
  · exact Nat.le_antisymm (h.2.2 t' h'.1 x hx) (h'.2.2 t h.1 x hx)
  · rw [h.2.1 x (by omega), h'.2.1 x (by omega)]
theorem rb_Op_un {p' : Nat} (h : rb_Op F T w d m n p t) (h' : rb_Op F T w d m n p' t') : p = p' ∧ t = t' := by
  have e : p = p' := Nat.le_antisymm (h.2 p' t' h'.1.1) (h'.2 p t h.1.1)
  subst e
  exact ⟨rfl, rb_Le_un h.1 h'.1⟩
/-- without circles the zero drop has period 45 -/
theorem rb_Fe_0 (hF : ∀ i, i < m → F i < n) (hT : ∀ i, i < m → T i < n) (hn : n ≤ 5) (hd : ∀ x, d x ≤ 9) (hS : rb_S F T w m) :
    rb_Fe F T w d m n 45 (fun _ => 0) := by
  refine ⟨fun i _ => Nat.zero_le _, ?_⟩
  intro u v q hu hw he
  have he : rb_r w q + 0 = 0 := he
  have h1 := rb_len0 hF hT hS hu hw (by omega)
  have h2 : ∀ l : List Nat, rb_r (fun i => d (T i)) l ≤ 9 * l.length := by
    intro l
    induction l with
    | nil => simp [rb_r]
    | cons a l ih => have := hd (T a); simp only [rb_r, List.length_cons]; omega
  have := h2 q
  have := hd u
  omega
/-- the jump at each level of a least plan -/
theorem rb_jump (h : rb_Le F T w d m n p t) {x j : Nat} (hx : x < n) (hj : 1 ≤ j) (hjx : j ≤ t x) :
    ∃ (u v : Nat) (q : List Nat), u < n ∧ rb_W F T m u v q ∧ rb_r w q = 0 ∧ p < d u + rb_r (fun i => d (T i)) q ∧ t u = j ∧ t v + 1 = j := by
  have hn : ¬ rb_Fe F T w d m n p (fun y => if j ≤ t y then t y - 1 else t y) := by
    intro hf
    have := h.2.2 _ hf x hx
    have this : t x ≤ (if j ≤ t x then t x - 1 else t x) := this
    rw [if_pos hjx] at this
    omega
  have hl : rb_L F T w m (fun y => if j ≤ t y then t y - 1 else t y) := by
    intro i hi
    have := h.1.1 i hi
    show (if j ≤ t (T i) then t (T i) - 1 else t (T i)) ≤ w i + (if j ≤ t (F i) then t (F i) - 1 else t (F i))
    by_cases c1 : j ≤ t (T i) <;> by_cases c2 : j ≤ t (F i) <;> simp only [c1, c2, if_true, if_false] <;> omega
  have h3 : ¬ ∀ (u v : Nat) (q : List Nat), u < n → rb_W F T m u v q → rb_r w q + (if j ≤ t u then t u - 1 else t u) = (if j ≤ t v then t v - 1 else t v) →
      d u + rb_r (fun i => d (T i)) q ≤ p := fun hh => hn ⟨hl, hh⟩
  have h4 : ∃ (u v : Nat) (q : List Nat), u < n ∧ rb_W F T m u v q ∧ rb_r w q + (if j ≤ t u then t u - 1 else t u) = (if j ≤ t v then t v - 1 else t v) ∧
      ¬ d u + rb_r (fun i => d (T i)) q ≤ p := by
    refine Classical.byContradiction fun hc => h3 ?_
    intro u v q hu hw he
    exact Classical.byContradiction fun hd => hc ⟨u, v, q, hu, hw, he, hd⟩
  obtain ⟨u, v, q, hu, hw, he, hd⟩ := h4
  have hlw := rb_Lw h.1.1 q u v hw
  have hne : rb_r w q + t u ≠ t v := fun e => hd (h.1.2 u v q hu hw e)
  by_cases c1 : j ≤ t u <;> by_cases c2 : j ≤ t v
  · rw [if_pos c1, if_pos c2] at he; omega
  · rw [if_pos c1, if_neg c2] at he
    exact ⟨u, v, q, hu, hw, by omega, by omega, by omega, by omega⟩
  · rw [if_neg c1, if_pos c2] at he; omega
  · rw [if_neg c1, if_neg c2] at he; omega
/-- along a walk without registers from level j to level j - 1 every wire has its ends there -/
theorem rb_lev (hl : rb_L F T w m t) {u v j : Nat} {q : List Nat} (hw : rb_W F T m u v q) (hr : rb_r w q = 0) (hu : t u = j) (hv : t v + 1 = j)
    {i : Nat} (hi : i ∈ q) : (t (F i) = j ∨ t (F i) + 1 = j) ∧ (t (T i) = j ∨ t (T i) + 1 = j) ∧ w i = 0 := by
  obtain ⟨l1, l2, rfl⟩ := List.append_of_mem hi
  obtain ⟨x, h1, h2⟩ := (rb_W_app l1 (i :: l2) u v).mp hw
  rw [rb_r_app] at hr
  simp only [rb_r] at hr
  have a1 := rb_Lw hl l1 u x h1
  have a2 := rb_Lw hl l2 (T i) v h2.2.2
  have a3 := hl i h2.1
  have a4 : F i = x := h2.2.1
  rw [a4] at a3 ⊢
  omega
theorem rb_cross : ∀ (q : List Nat) (u v j : Nat), rb_W F T m u v q → t u = j → t v + 1 = j →
    (∀ i, i ∈ q → (t (F i) = j ∨ t (F i) + 1 = j) ∧ (t (T i) = j ∨ t (T i) + 1 = j)) → ∃ i, i ∈ q ∧ t (F i) = j ∧ t (T i) + 1 = j := by
  intro q
  induction q with
  | nil => intro u v j e hu hv _; have e : u = v := e; rw [e] at hu; omega
  | cons i q ih =>
    intro u v j ⟨h1, h2, h3⟩ hu hv hall
    have hi := hall i (by simp)
    by_cases c : t (T i) = j
    · obtain ⟨i', hi', h⟩ := ih (T i) v j h3 c hv (fun i hi => hall i (List.mem_cons_of_mem _ hi))
      exact ⟨i', List.mem_cons_of_mem _ hi', h⟩
    · exact ⟨i, by simp, by rw [h2]; exact hu, by omega⟩
/-- the jump, all of it -/
theorem rb_jump2 (h : rb_Le F T w d m n p t) {x j : Nat} (hx : x < n) (hj : 1 ≤ j) (hjx : j ≤ t x) :
    ∃ (u v : Nat) (q : List Nat), u < n ∧ rb_W F T m u v q ∧ rb_r w q = 0 ∧ p < d u + rb_r (fun i => d (T i)) q ∧
      (∀ i, i ∈ q → (t (F i) = j ∨ t (F i) + 1 = j) ∧ (t (T i) = j ∨ t (T i) + 1 = j) ∧ w i = 0) ∧
      ∃ i, i ∈ q ∧ i < m ∧ w i = 0 ∧ t (F i) = j ∧ t (T i) + 1 = j := by
  obtain ⟨u, v, q, hu, hw, hr, hd, tu, tv⟩ := rb_jump h hx hj hjx
  have hall : ∀ i, i ∈ q → (t (F i) = j ∨ t (F i) + 1 = j) ∧ (t (T i) = j ∨ t (T i) + 1 = j) ∧ w i = 0 := fun i hi => rb_lev h.1.1 hw hr tu tv hi
  obtain ⟨i, hi, h1, h2⟩ := rb_cross q u v j hw tu tv (fun i hi => ⟨(hall i hi).1, (hall i hi).2.1⟩)
  exact ⟨u, v, q, hu, hw, hr, hd, hall, i, hi, rb_W_mem q u v hw i hi, (hall i hi).2.2, h1, h2⟩
/-- no drop beyond 4 -/
theorem rb_le4 (hF : ∀ i, i < m → F i < n) (hT : ∀ i, i < m → T i < n) (hn : n ≤ 5) (h : rb_Le F T w d m n p t) (x : Nat) : t x ≤ 4 := by
  by_cases hx : x < n
  · refine Classical.byContradiction fun hc => ?_
    have key : ∀ j, j ≤ 5 → ∃ y, y < n ∧ t y = j := by
      intro j hj
      by_cases h0 : j = 0
      · obtain ⟨_, _, _, _, _, _, _, _, i, _, him, _, _, h2⟩ := rb_jump2 h hx (j := 1) (by omega) (by omega)
        exact ⟨T i, hT i him, by omega⟩
      · obtain ⟨_, _, _, _, _, _, _, _, i, _, him, _, h1, _⟩ := rb_jump2 h hx (j := j) (by omega) (by omega)
        exact ⟨F i, hF i him, h1⟩
    obtain ⟨y0, b0, e0⟩ := key 0 (by omega)
    obtain ⟨y1, b1, e1⟩ := key 1 (by omega)
    obtain ⟨y2, b2, e2⟩ := key 2 (by omega)
    obtain ⟨y3, b3, e3⟩ := key 3 (by omega)
    obtain ⟨y4, b4, e4⟩ := key 4 (by omega)
    obtain ⟨y5, b5, e5⟩ := key 5 (by omega)
    have hne : ∀ a b, t a ≠ t b → a ≠ b := fun a b hh e => hh (by rw [e])
    have hnd : [y0, y1, y2, y3, y4, y5].Nodup := by
      simp only [List.nodup_cons, List.mem_cons, List.not_mem_nil, or_false, not_or, List.nodup_nil, and_true, not_false_eq_true]
      refine ⟨⟨?_, ?_, ?_, ?_, ?_⟩, ⟨?_, ?_, ?_, ?_⟩, ⟨?_, ?_, ?_⟩, ⟨?_, ?_⟩, ?_⟩ <;> apply hne <;> omega
    have := rb_pig n _ hnd (by
      intro x hx
      simp only [List.mem_cons, List.not_mem_nil, or_false] at hx
      rcases hx with rfl | rfl | rfl | rfl | rfl | rfl <;> assumption)
    simp at this
    omega
  · rw [h.2.1 x (by omega)]; omega
end
end
section
/-! the finite check behind the growth of registers: five drops before (s), five drops now (t) -/
def rb_all (f : Nat → Bool) : Nat → Bool
  | 0 => true
  | n + 1 => f n && rb_all f n
def rb_any (f : Nat → Bool) : Nat → Bool
  | 0 => false
  | n + 1 => f n || rb_any f n
theorem rb_all_at {f : Nat → Bool} : ∀ n, rb_all f n = true → ∀ x, x < n → f x = true := by
  intro n
  induction n with
  | zero => intro _ x hx; omega
  | succ n ih =>
    intro h x hx
    simp only [rb_all, Bool.and_eq_true] at h
    by_cases e : x = n
    · rw [e]; exact h.1
    · exact ih h.2 x (by omega)
theorem rb_all_of {f : Nat → Bool} : ∀ n, (∀ x, x < n → f x = true) → rb_all f n = true := by
  intro n
  induction n with
  | zero => intro _; rfl
  | succ n ih => intro h; simp only [rb_all, Bool.and_eq_true]; exact ⟨h n (by omega), ih (fun x hx => h x (by omega))⟩
theorem rb_any_of {f : Nat → Bool} {x : Nat} : ∀ n, x < n → f x = true → rb_any f n = true := by
  intro n
  induction n with
  | zero => intro hx; omega
  | succ n ih =>
    intro hx h
    simp only [rb_any, Bool.or_eq_true]
    by_cases e : x = n
    · rw [e] at h; exact Or.inl h
    · exact Or.inr (ih (by omega) h)
theorem rb_any_at {f : Nat → Bool} : ∀ n, rb_any f n = true → ∃ x, x < n ∧ f x = true := by
  intro n
  induction n with
  | zero => intro h; cases h
  | succ n ih =>
    intro h
    simp only [rb_any, Bool.or_eq_true] at h
    rcases h with h | h
    · exact ⟨n, by omega, h⟩
    · obtain ⟨x, hx, h⟩ := ih h; exact ⟨x, by omega, h⟩
def rb_v (a b c d e : Nat) : Nat → Nat
  | 0 => a
  | 1 => b
  | 2 => c
  | 3 => d
  | _ => e
def rb_phi (g f : Nat) : Nat :=
  cond (Nat.beq g 6) 10 (cond (Nat.beq g 5) (cond (Nat.ble f 2) 9 7) (cond (Nat.beq g 4) (cond (Nat.beq f 1) 8 (cond (Nat.beq f 2) 7 5))
    (cond (Nat.beq g 3) (cond (Nat.beq f 0) 4 (cond (Nat.beq f 1) 8 (cond (Nat.beq f 2) 6 2))) (cond (Nat.beq g 2) (cond (Nat.ble f 3) 4 0) 0))))
theorem rb_phi_le (g f : Nat) : rb_phi g f ≤ 10 := by
  unfold rb_phi
  cases Nat.beq g 6 <;> cases Nat.beq g 5 <;> cases Nat.beq g 4 <;> cases Nat.beq g 3 <;> cases Nat.beq g 2 <;> cases Nat.ble f 2 <;> cases Nat.ble f 3 <;>
    cases Nat.beq f 0 <;> cases Nat.beq f 1 <;> cases Nat.beq f 2 <;> decide
def rb_p5 (t : Nat → Nat) : Nat := rb_phi (t 0 + t 1 - (t 2 + t 3)) (t 4)
def rb_has (t : Nat → Nat) (j : Nat) : Bool := rb_any (fun i => Nat.beq (t i) j) 5
def rb_lvB (t : Nat → Nat) : Bool :=
  (!rb_has t 4 || rb_has t 3) && ((!rb_has t 3 || rb_has t 2) && ((!rb_has t 2 || rb_has t 1) && (!rb_has t 1 || rb_has t 0)))
def rb_st (s t : Nat → Nat) (j : Nat) : Bool := rb_any (fun p => Nat.beq (t p) j && rb_any (fun q => Nat.beq (t q + 1) j && Nat.ble (s p) (s q)) 5) 5
def rb_K0 (s t : Nat → Nat) : Bool := rb_all (fun j => !rb_has t (j + 1) || rb_st s t (j + 1)) 4
def rb_K1 (s t : Nat → Nat) : Bool := rb_any (fun j0 => rb_all (fun j => Nat.beq j j0 || (!rb_has t (j + 1) || rb_st s t (j + 1))) 4) 4
def rb_ok (c x : Nat) (t : Nat → Nat) : Bool := Nat.ble (4 * (t 0 + t 1) + x) (c + 4 * (t 2 + t 3) + rb_p5 t)
def rb_all5 (f : (Nat → Nat) → Bool) : Bool :=
  rb_all (fun a => rb_all (fun b => rb_all (fun c => rb_all (fun d => rb_all (fun e => f (rb_v a b c d e)) 5) 5) 5) 5) 5
theorem rb_all5_at {f : (Nat → Nat) → Bool} (h : rb_all5 f = true) {a b c d e : Nat} (ha : a < 5) (hb : b < 5) (hc : c < 5) (hd : d < 5) (he : e < 5) :
    f (rb_v a b c d e) = true :=
  rb_all_at 5 (rb_all_at 5 (rb_all_at 5 (rb_all_at 5 (rb_all_at 5 h a ha) b hb) c hc) d hd) e he
theorem rb_chk0 : rb_all5 (fun t => rb_ok 14 0 t || !rb_lvB t) = true := by decide +kernel
theorem rb_chk1 : rb_all5 (fun s => Nat.beq (rb_p5 s) 0 || (!rb_lvB s || rb_all5 (fun t => rb_ok 14 (rb_p5 s) t || (!rb_lvB t || !rb_K0 s t)))) = true := by decide +kernel
theorem rb_chk3a : rb_all5 (fun t => rb_ok 21 7 t || !rb_lvB t) = true := by decide +kernel
theorem rb_chk3 : rb_all5 (fun s => Nat.ble (rb_p5 s) 7 || (!rb_lvB s || rb_all5 (fun t => rb_ok 21 (rb_p5 s) t || (!rb_lvB t || !rb_K1 s t)))) = true := by decide +kernel
/-- no level above 2, and if 2 then two blocks at 1 -/
def rb_w1 (t : Nat → Nat) : Bool := rb_all (fun i => Nat.ble (t i) 2) 5 && (!rb_has t 2 || rb_any (fun p => rb_any (fun q => !Nat.beq p q && (Nat.beq (t p) 1 && Nat.beq (t q) 1)) 5) 5)
theorem rb_chk2 : rb_all5 (fun t => rb_ok 14 10 t || (!rb_lvB t || !rb_w1 t)) = true := by decide +kernel
theorem rb_chk4 : rb_all5 (fun t => rb_ok 21 10 t || (!rb_lvB t || rb_has t 4)) = true := by decide +kernel
theorem rb_chk5 : rb_all5 (fun t => rb_ok 28 10 t || !rb_lvB t) = true := by decide +kernel
/-- a single way: block 0 against block 2 -/
theorem rb_chk1s : rb_all5 (fun s => !Nat.beq (s 0) (s 2 + 4) || (!rb_lvB s || rb_all5 (fun t => !Nat.beq (t 0) (t 2 + 4) || (!rb_lvB t || !rb_K0 s t)))) = true := by decide +kernel
end
section
/-! sums of registers over wires with distinct tails and distinct heads -/
def rb_Si (F T : Nat → Nat) (m : Nat) (p : List Nat) : Prop := (∀ i, i ∈ p → i < m) ∧ (p.map F).Nodup ∧ (p.map T).Nodup
def rb_pm (a b c d e : Nat) : Prop := (∀ i, i < 5 → rb_v a b c d e i < 5) ∧ ∀ x, x < 5 → ∃ i, i < 5 ∧ rb_v a b c d e i = x
def rb_pmB (a b c d e : Nat) : Bool :=
  rb_all (fun i => Nat.ble (rb_v a b c d e i + 1) 5) 5 && rb_all (fun x => rb_any (fun i => Nat.beq (rb_v a b c d e i) x) 5) 5
theorem rb_pm_of {a b c d e : Nat} (h : rb_pmB a b c d e = true) : rb_pm a b c d e := by
  simp only [rb_pmB, Bool.and_eq_true] at h
  refine ⟨fun i hi => ?_, fun x hx => ?_⟩
  · exact Nat.le_of_ble_eq_true (rb_all_at 5 h.1 i hi)
  · obtain ⟨i, hi, e⟩ := rb_any_at 5 (rb_all_at 5 h.2 x hx)
    exact ⟨i, hi, Nat.eq_of_beq_eq_true e⟩
theorem rb_pmc4 : rb_all (fun a => rb_all (fun b => rb_all (fun c => rb_all (fun d =>
    Nat.beq a b || (Nat.beq a c || (Nat.beq a d || (Nat.beq b c || (Nat.beq b d || (Nat.beq c d || rb_any (fun e => rb_pmB a b c d e) 5)))))) 5) 5) 5) 5 = true := by decide +kernel
theorem rb_pmc2 : rb_all (fun a => rb_all (fun c => Nat.beq a c || rb_any (fun b => rb_any (fun d => rb_any (fun e => rb_pmB a b c d e) 5) 5) 5) 5) 5 = true := by decide +kernel
theorem rb_or_ne {a b : Nat} {X : Bool} (h : a ≠ b) (hX : (Nat.beq a b || X) = true) : X = true := by
  rcases (Bool.or_eq_true _ _).mp hX with h1 | h1
  · exact absurd (Nat.eq_of_beq_eq_true h1) h
  · exact h1
theorem rb_pm4 {a b c d : Nat} (ha : a < 5) (hb : b < 5) (hc : c < 5) (hd : d < 5) (h1 : a ≠ b) (h2 : a ≠ c) (h3 : a ≠ d) (h4 : b ≠ c) (h5 : b ≠ d) (h6 : c ≠ d) :
    ∃ e, rb_pm a b c d e := by
  have := rb_all_at 5 (rb_all_at 5 (rb_all_at 5 (rb_all_at 5 rb_pmc4 a ha) b hb) c hc) d hd
  obtain ⟨e, _, he⟩ := rb_any_at 5 (rb_or_ne h6 (rb_or_ne h5 (rb_or_ne h4 (rb_or_ne h3 (rb_or_ne h2 (rb_or_ne h1 this))))))
  exact ⟨e, rb_pm_of he⟩
theorem rb_pm2 {a c : Nat} (ha : a < 5) (hc : c < 5) (h : a ≠ c) : ∃ b d e, rb_pm a b c d e := by
  have := rb_all_at 5 (rb_all_at 5 rb_pmc2 a ha) c hc
  obtain ⟨b, _, hb⟩ := rb_any_at 5 (rb_or_ne h this)
  obtain ⟨d, _, hd⟩ := rb_any_at 5 hb
  obtain ⟨e, _, he⟩ := rb_any_at 5 hd
  exact ⟨b, d, e, rb_pm_of he⟩
theorem rb_r_map (t f : Nat → Nat) (p : List Nat) : rb_r t (p.map f) = rb_r (fun i => t (f i)) p := by
  induction p with
  | nil => rfl
  | cons a p ih => simp only [List.map_cons, rb_r, ih]
theorem rb_r_congr {f g : Nat → Nat} : ∀ p : List Nat, (∀ i, i ∈ p → f i = g i) → rb_r f p = rb_r g p := by
  intro p
  induction p with
  | nil => intro _; rfl
  | cons a p ih => intro h; simp only [rb_r, h a (by simp), ih (fun i hi => h i (List.mem_cons_of_mem _ hi))]
theorem rb_r_erase (t : Nat → Nat) {x : Nat} : ∀ L : List Nat, x ∈ L → rb_r t L = t x + rb_r t (L.erase x) := by
  intro L
  induction L with
  | nil => intro h; cases h
  | cons a L ih =>
    intro h
    by_cases e : a = x
    · subst e; simp [rb_r]
    · have hx : x ∈ L := by
        rcases List.mem_cons.mp h with h | h
        · exact absurd h.symm e
        · exact h
      rw [List.erase_cons_tail (by simpa using e)]
      simp only [rb_r, ih hx]
      omega
theorem rb_tri' : ∀ (N : Nat) (L M : List Nat), L.length ≤ N → L.length = M.length → L.Nodup → M.Nodup → (∀ x, x ∈ L → x < 5) → (∀ x, x ∈ M → x < 5) →
    (∃ a b A B f, rb_pm a b A B f ∧ ∀ t : Nat → Nat, rb_r t L + (t A + t B) = rb_r t M + (t a + t b)) ∨
    (∃ a x A y z, rb_pm a x A y z ∧ ∀ t : Nat → Nat, rb_r t L + t A = rb_r t M + t a) ∨ ∀ t : Nat → Nat, rb_r t L = rb_r t M := by
  intro N
  induction N with
  | zero =>
    intro L M hN hl _ _ _ _
    have e1 : L = [] := List.eq_nil_of_length_eq_zero (by omega)
    have e2 : M = [] := List.eq_nil_of_length_eq_zero (by omega)
    subst e1; subst e2
    exact Or.inr (Or.inr (fun _ => rfl))
  | succ N ih =>
    intro L M hN hl hL hM bL bM
    by_cases hc : ∃ x, x ∈ L ∧ x ∈ M
    · obtain ⟨x, xL, xM⟩ := hc
      have pL : 0 < L.length := List.length_pos_of_mem xL
      have l1 := List.length_erase_of_mem xL
      have l2 := List.length_erase_of_mem xM
      have r1 : ∀ t : Nat → Nat, rb_r t L = t x + rb_r t (L.erase x) := fun t => rb_r_erase t L xL
      have r2 : ∀ t : Nat → Nat, rb_r t M = t x + rb_r t (M.erase x) := fun t => rb_r_erase t M xM
      rcases ih (L.erase x) (M.erase x) (by omega) (by omega) (hL.erase x) (hM.erase x) (fun y hy => bL y (List.mem_of_mem_erase hy)) (fun y hy => bM y (List.mem_of_mem_erase hy)) with
        ⟨a, b, A, B, f, h1, h2⟩ | ⟨a, x', A, y, z, h1, h2⟩ | h2
      · refine Or.inl ⟨a, b, A, B, f, h1, fun t => ?_⟩
        have := h2 t; have := r1 t; have := r2 t; omega
      · refine Or.inr (Or.inl ⟨a, x', A, y, z, h1, fun t => ?_⟩)
        have := h2 t; have := r1 t; have := r2 t; omega
      · refine Or.inr (Or.inr fun t => ?_)
        have := h2 t; have := r1 t; have := r2 t; omega
    · have hd : ∀ a, a ∈ L → ∀ b, b ∈ M → a ≠ b := fun a ha b hb e => hc ⟨a, ha, e ▸ hb⟩
      have hnd : (L ++ M).Nodup := List.nodup_append.mpr ⟨hL, hM, hd⟩
      have h5 := rb_pig 5 _ hnd (by
        intro x hx
        rcases List.mem_append.mp hx with hx | hx
        · exact bL x hx
        · exact bM x hx)
      rw [List.length_append] at h5
      match L, M, hl, hL, hM, bL, bM, hd, h5 with
      | [], [], _, _, _, _, _, _, _ => exact Or.inr (Or.inr (fun _ => rfl))
      | [a], [A], _, _, _, bL, bM, hd, _ =>
        obtain ⟨x, y, z, h⟩ := rb_pm2 (bL a (by simp)) (bM A (by simp)) (hd a (by simp) A (by simp))
        exact Or.inr (Or.inl ⟨a, x, A, y, z, h, fun t => by simp only [rb_r]; omega⟩)
      | [a, b], [A, B], _, hL, hM, bL, bM, hd, _ =>
        have n1 : a ≠ b := by
          intro e; subst e; simp at hL
        have n2 : A ≠ B := by
          intro e; subst e; simp at hM
        obtain ⟨f, h⟩ := rb_pm4 (bL a (by simp)) (bL b (by simp)) (bM A (by simp)) (bM B (by simp)) n1
          (hd a (by simp) A (by simp)) (hd a (by simp) B (by simp)) (hd b (by simp) A (by simp)) (hd b (by simp) B (by simp)) n2
        exact Or.inl ⟨a, b, A, B, f, h, fun t => by simp only [rb_r]; omega⟩
      | a :: b :: c :: L, M, hl, _, _, _, _, _, h5 =>
        simp only [List.length_cons] at hl h5
        omega
      | [], A :: M, hl, _, _, _, _, _, _ => simp at hl
      | [a], [], hl, _, _, _, _, _, _ => simp at hl
      | [a], A :: B :: M, hl, _, _, _, _, _, _ => simp at hl
      | [a, b], [], hl, _, _, _, _, _, _ => simp at hl
      | [a, b], [A], hl, _, _, _, _, _, _ => simp at hl
      | [a, b], A :: B :: C :: M, hl, _, _, _, _, _, _ => simp at hl
def rb_G2 (F T : Nat → Nat) (p : List Nat) (a b A B : Nat) : Prop :=
  ∀ t : Nat → Nat, rb_r (fun i => t (F i)) p + (t A + t B) = rb_r (fun i => t (T i)) p + (t a + t b)
def rb_G1 (F T : Nat → Nat) (p : List Nat) (a A : Nat) : Prop := ∀ t : Nat → Nat, rb_r (fun i => t (F i)) p + t A = rb_r (fun i => t (T i)) p + t a
def rb_G0 (F T : Nat → Nat) (p : List Nat) : Prop := ∀ t : Nat → Nat, rb_r (fun i => t (F i)) p = rb_r (fun i => t (T i)) p
theorem rb_tri {F T : Nat → Nat} {m : Nat} {p : List Nat} (hF : ∀ i, i < m → F i < 5) (hT : ∀ i, i < m → T i < 5) (h : rb_Si F T m p) :
    (∃ a b A B f, rb_pm a b A B f ∧ rb_G2 F T p a b A B) ∨ (∃ a x A y z, rb_pm a x A y z ∧ rb_G1 F T p a A) ∨ rb_G0 F T p := by
  have h1 : ∀ x, x ∈ p.map F → x < 5 := by
    intro x hx
    obtain ⟨i, hi, rfl⟩ := List.mem_map.mp hx
    exact hF i (h.1 i hi)
  have h2 : ∀ x, x ∈ p.map T → x < 5 := by
    intro x hx
    obtain ⟨i, hi, rfl⟩ := List.mem_map.mp hx
    exact hT i (h.1 i hi)
  have key := rb_tri' (p.map F).length (p.map F) (p.map T) (Nat.le_refl _) (by simp) h.2.1 h.2.2 h1 h2
  simp only [rb_r_map] at key
  exact key
def rb_ps (x y : Nat) : Nat := if x = y + 4 then 2 else 0
/-- the bound on the registers of wires with distinct tails and distinct heads -/
def rb_Bd (F T w : Nat → Nat) (m tau : Nat) (s : Nat → Nat) : Prop := ∀ p, rb_Si F T m p →
  (∀ a b A B f, rb_pm a b A B f → rb_G2 F T p a b A B → 4 * rb_r w p ≤ 22 * p.length + 7 * tau + rb_phi (s a + s b - (s A + s B)) (s f)) ∧
  (∀ a x A y z, rb_pm a x A y z → rb_G1 F T p a A → 4 * rb_r w p ≤ 22 * p.length + 7 * tau + rb_ps (s a) (s A)) ∧
  (rb_G0 F T p → 4 * rb_r w p ≤ 22 * p.length + 7 * tau)
theorem rb_ps_le (x y : Nat) : rb_ps x y ≤ 2 := by unfold rb_ps; split <;> omega
theorem rb_Bd_use {F T w s : Nat → Nat} {m tau : Nat} (hF : ∀ i, i < m → F i < 5) (hT : ∀ i, i < m → T i < 5) (hB : rb_Bd F T w m tau s) {p : List Nat} (h : rb_Si F T m p) :
    4 * rb_r w p ≤ 22 * p.length + 7 * tau + 10 := by
  have hb := hB p h
  rcases rb_tri hF hT h with ⟨a, b, A, B, f, h1, h2⟩ | ⟨a, x, A, y, z, h1, h2⟩ | h2
  · have := hb.1 a b A B f h1 h2
    have := rb_phi_le (s a + s b - (s A + s B)) (s f)
    omega
  · have := hb.2.1 a x A y z h1 h2
    have := rb_ps_le (s a) (s A)
    omega
  · have := hb.2.2 h2
    omega
theorem rb_r_move {F T w w' t : Nat → Nat} {m : Nat} (hw : ∀ i, i < m → w' i + t (T i) = w i + t (F i)) : ∀ p : List Nat, (∀ i, i ∈ p → i < m) →
    rb_r w' p + rb_r (fun i => t (T i)) p = rb_r w p + rb_r (fun i => t (F i)) p := by
  intro p
  induction p with
  | nil => intro _; rfl
  | cons a p ih =>
    intro h
    have h1 := ih (fun i hi => h i (List.mem_cons_of_mem _ hi))
    have h2 := hw a (h a (by simp))
    simp only [rb_r]
    omega
theorem rb_Bd_apply {F T w w' s t : Nat → Nat} {m tau : Nat} (c : Nat) (hB : rb_Bd F T w m tau s) (hw : ∀ i, i < m → w' i + t (T i) = w i + t (F i))
    (h2 : ∀ a b A B f, rb_pm a b A B f → 4 * (t a + t b) + rb_phi (s a + s b - (s A + s B)) (s f) ≤ 7 * c + 4 * (t A + t B) + rb_phi (t a + t b - (t A + t B)) (t f))
    (h1 : ∀ a x A y z, rb_pm a x A y z → 4 * t a + rb_ps (s a) (s A) ≤ 7 * c + 4 * t A + rb_ps (t a) (t A)) : rb_Bd F T w' m (tau + c) t := by
  intro p hp
  have hm := rb_r_move hw p hp.1
  have hb := hB p hp
  refine ⟨fun a b A B f hpm hg => ?_, fun a x A y z hpm hg => ?_, fun hg => ?_⟩
  · have := hb.1 a b A B f hpm hg
    have := h2 a b A B f hpm
    have := hg t
    omega
  · have := hb.2.1 a x A y z hpm hg
    have := h1 a x A y z hpm
    have := hg t
    omega
  · have := hb.2.2 hg
    have := hg t
    omega
theorem rb_Bd_congr {F T w F' T' w' s : Nat → Nat} {m tau : Nat} (hB : rb_Bd F T w m tau s) (hF : ∀ i, i < m → F' i = F i) (hT : ∀ i, i < m → T' i = T i)
    (hw : ∀ i, i < m → w' i = w i) : rb_Bd F' T' w' m tau s := by
  intro p hp
  have eF : p.map F' = p.map F := List.map_congr_left (fun i hi => hF i (hp.1 i hi))
  have eT : p.map T' = p.map T := List.map_congr_left (fun i hi => hT i (hp.1 i hi))
  have ew : rb_r w' p = rb_r w p := rb_r_congr p (fun i hi => hw i (hp.1 i hi))
  have e1 : ∀ t : Nat → Nat, rb_r (fun i => t (F' i)) p = rb_r (fun i => t (F i)) p := fun t => rb_r_congr p (fun i hi => by rw [hF i (hp.1 i hi)])
  have e2 : ∀ t : Nat → Nat, rb_r (fun i => t (T' i)) p = rb_r (fun i => t (T i)) p := fun t => rb_r_congr p (fun i hi => by rw [hT i (hp.1 i hi)])
  have hb := hB p ⟨hp.1, eF ▸ hp.2.1, eT ▸ hp.2.2⟩
  rw [ew]
  refine ⟨fun a b A B f hpm hg => hb.1 a b A B f hpm ?_, fun a x A y z hpm hg => hb.2.1 a x A y z hpm ?_, fun hg => hb.2.2 ?_⟩ <;> intro t <;> have := hg t <;> rw [e1, e2] at this <;> exact this
theorem rb_Bd_wire {F T w F' T' w' s : Nat → Nat} {m tau : Nat} (hB : rb_Bd F T w m tau s) (hF5 : ∀ i, i < m → F i < 5) (hT5 : ∀ i, i < m → T i < 5)
    (hF : ∀ i, i < m → F' i = F i) (hT : ∀ i, i < m → T' i = T i)
    (hw : ∀ i, i < m → w' i = w i) (h3 : w' m ≤ 3) : rb_Bd F' T' w' (m + 1) tau s := by
  intro p hp
  by_cases hm : m ∈ p
  · obtain ⟨l1, l2, rfl⟩ := List.append_of_mem hm
    have hn : ∀ i, i ∈ l1 ++ l2 → i < m := by
      intro i hi
      have h1 : i < m + 1 := hp.1 i (by
        rcases List.mem_append.mp hi with h | h
        · exact List.mem_append.mpr (Or.inl h)
        · exact List.mem_append.mpr (Or.inr (List.mem_cons_of_mem _ h)))
      have h2 : i ≠ m := by
        intro e
        subst e
        have hd := hp.2.1
        rw [List.map_append, List.map_cons] at hd
        have hd' := List.nodup_append.mp hd
        rcases List.mem_append.mp hi with h | h
        · exact hd'.2.2 (F' i) (List.mem_map.mpr ⟨i, h, rfl⟩) (F' i) (by simp) rfl
        · exact (List.nodup_cons.mp hd'.2.1).1 (List.mem_map.mpr ⟨i, h, rfl⟩)
      omega
    have sub : (l1 ++ l2).Sublist (l1 ++ m :: l2) := List.Sublist.append (List.Sublist.refl _) (List.sublist_cons_self _ _)
    have eF : (l1 ++ l2).map F' = (l1 ++ l2).map F := List.map_congr_left (fun i hi => hF i (hn i hi))
    have eT : (l1 ++ l2).map T' = (l1 ++ l2).map T := List.map_congr_left (fun i hi => hT i (hn i hi))
    have ew : rb_r w' (l1 ++ l2) = rb_r w (l1 ++ l2) := rb_r_congr _ (fun i hi => hw i (hn i hi))
    have hs : rb_Si F T m (l1 ++ l2) := ⟨hn, eF ▸ List.Nodup.sublist (sub.map F') hp.2.1, eT ▸ List.Nodup.sublist (sub.map T') hp.2.2⟩
    have hb := rb_Bd_use hF5 hT5 hB hs
    have e3 : rb_r w' (l1 ++ m :: l2) = rb_r w' (l1 ++ l2) + w' m := by simp only [rb_r_app, rb_r]; omega
    have e4 : (l1 ++ m :: l2).length = (l1 ++ l2).length + 1 := by simp only [List.length_append, List.length_cons]; omega
    have : 4 * rb_r w' (l1 ++ m :: l2) ≤ 22 * (l1 ++ m :: l2).length + 7 * tau := by rw [e3, e4, ew]; omega
    exact ⟨fun _ _ _ _ _ _ _ => by omega, fun _ _ _ _ _ _ _ => by omega, fun _ => this⟩
  · have hn : ∀ i, i ∈ p → i < m := by
      intro i hi
      have h1 := hp.1 i hi
      have h2 : i ≠ m := fun e => hm (e ▸ hi)
      omega
    exact rb_Bd_congr hB hF hT hw p ⟨hn, hp.2.1, hp.2.2⟩
theorem rb_Bd_cut {F T w F' T' w' s : Nat → Nat} {m tau c : Nat} (hB : rb_Bd F T w (m + 1) tau s) (hc : c ≤ m)
    (hF : ∀ i, i < m → F' i = F (if i < c then i else i + 1)) (hT : ∀ i, i < m → T' i = T (if i < c then i else i + 1))
    (hw : ∀ i, i < m → w' i = w (if i < c then i else i + 1)) : rb_Bd F' T' w' m tau s := by
  intro p hp
  have eF : p.map F' = (p.map (fun i => if i < c then i else i + 1)).map F := by rw [List.map_map]; exact List.map_congr_left (fun i hi => hF i (hp.1 i hi))
  have eT : p.map T' = (p.map (fun i => if i < c then i else i + 1)).map T := by rw [List.map_map]; exact List.map_congr_left (fun i hi => hT i (hp.1 i hi))
  have ew : rb_r w' p = rb_r w (p.map (fun i => if i < c then i else i + 1)) := by rw [rb_r_map]; exact rb_r_congr p (fun i hi => hw i (hp.1 i hi))
  have e1 : ∀ t : Nat → Nat, rb_r (fun i => t (F' i)) p = rb_r (fun i => t (F i)) (p.map (fun i => if i < c then i else i + 1)) := fun t => by
    rw [rb_r_map]; exact rb_r_congr p (fun i hi => by rw [hF i (hp.1 i hi)])
  have e2 : ∀ t : Nat → Nat, rb_r (fun i => t (T' i)) p = rb_r (fun i => t (T i)) (p.map (fun i => if i < c then i else i + 1)) := fun t => by
    rw [rb_r_map]; exact rb_r_congr p (fun i hi => by rw [hT i (hp.1 i hi)])
  have hb := hB (p.map (fun i => if i < c then i else i + 1)) ⟨by
    intro i hi
    obtain ⟨j, hj, rfl⟩ := List.mem_map.mp hi
    have := hp.1 j hj
    have h5 : (if j < c then j else j + 1) < m + 1 := by split <;> omega
    exact h5, eF ▸ hp.2.1, eT ▸ hp.2.2⟩
  rw [List.length_map] at hb
  rw [ew]
  refine ⟨fun a b A B f hpm hg => hb.1 a b A B f hpm ?_, fun a x A y z hpm hg => hb.2.1 a x A y z hpm ?_, fun hg => hb.2.2 ?_⟩ <;> intro t <;> have := hg t <;> rw [e1, e2] at this <;> exact this
end
section
/-! the ghosts: last drop s, turns tau, changes since nn -/
def rb_LV (s : Nat → Nat) : Prop := (∀ x, s x ≤ 4) ∧ ∀ x j, x < 5 → 1 ≤ j → j ≤ s x → ∃ y, y < 5 ∧ s y + 1 = j
theorem rb_v_map (s : Nat → Nat) (a b c d e : Nat) : rb_v (s a) (s b) (s c) (s d) (s e) = fun i => s (rb_v a b c d e i) := by
  funext i
  match i with
  | 0 => rfl
  | 1 => rfl
  | 2 => rfl
  | 3 => rfl
  | _ + 4 => rfl
theorem rb_imp {X Y : Bool} (h : X = true → Y = true) : (!X || Y) = true := by
  cases X
  · rfl
  · exact h rfl
theorem rb_has_at {t : Nat → Nat} {j : Nat} (h : rb_has t j = true) : ∃ i, i < 5 ∧ t i = j := by
  obtain ⟨i, hi, e⟩ := rb_any_at 5 h
  exact ⟨i, hi, Nat.eq_of_beq_eq_true e⟩
theorem rb_beq {a b : Nat} (h : a = b) : Nat.beq a b = true := by rw [h]; exact Nat.beq_refl b
theorem rb_has_of {t : Nat → Nat} {i j : Nat} (hi : i < 5) (h : t i = j) : rb_has t j = true := rb_any_of 5 hi (rb_beq h)
section
variable {s t : Nat → Nat} {a b A B f : Nat}
theorem rb_lv_of (hp : rb_pm a b A B f) (h : rb_LV s) : rb_lvB (rb_v (s a) (s b) (s A) (s B) (s f)) = true := by
  rw [rb_v_map]
  have key : ∀ j, rb_has (fun i => s (rb_v a b A B f i)) (j + 1) = true → rb_has (fun i => s (rb_v a b A B f i)) j = true := by
    intro j hj
    obtain ⟨i, hi, e⟩ := rb_has_at hj
    obtain ⟨y, hy, ey⟩ := h.2 _ (j + 1) (hp.1 i hi) (by omega) (by omega)
    obtain ⟨i', hi', e'⟩ := hp.2 y hy
    exact rb_has_of hi' (by rw [e']; omega)
  simp only [rb_lvB, Bool.and_eq_true]
  exact ⟨rb_imp (key 3), rb_imp (key 2), rb_imp (key 1), rb_imp (key 0)⟩
theorem rb_st_of (hp : rb_pm a b A B f) {p q j : Nat} (hp5 : p < 5) (hq5 : q < 5) (h1 : t p = j) (h2 : t q + 1 = j) (h3 : s p ≤ s q) :
    rb_st (fun i => s (rb_v a b A B f i)) (fun i => t (rb_v a b A B f i)) j = true := by
  obtain ⟨i, hi, ei⟩ := hp.2 p hp5
  obtain ⟨i', hi', ei'⟩ := hp.2 q hq5
  refine rb_any_of 5 hi ?_
  rw [Bool.and_eq_true]
  refine ⟨rb_beq (by dsimp only; rw [ei]; exact h1), rb_any_of 5 hi' ?_⟩
  rw [Bool.and_eq_true]
  exact ⟨rb_beq (by dsimp only; rw [ei']; exact h2), Nat.ble_eq_true_of_le (by dsimp only; rw [ei, ei']; exact h3)⟩
/-- every jump of t goes over an old wire -/
def rb_k0 (s t : Nat → Nat) : Prop := ∀ x j, x < 5 → 1 ≤ j → j ≤ t x → ∃ p q, p < 5 ∧ q < 5 ∧ t p = j ∧ t q + 1 = j ∧ s p ≤ s q
/-- all but one -/
def rb_k1 (s t : Nat → Nat) : Prop := ∃ j0, ∀ x j, j ≠ j0 → x < 5 → 1 ≤ j → j ≤ t x → ∃ p q, p < 5 ∧ q < 5 ∧ t p = j ∧ t q + 1 = j ∧ s p ≤ s q
theorem rb_K0_of (hp : rb_pm a b A B f) (h : rb_k0 s t) : rb_K0 (rb_v (s a) (s b) (s A) (s B) (s f)) (rb_v (t a) (t b) (t A) (t B) (t f)) = true := by
  rw [rb_v_map, rb_v_map]
  refine rb_all_of 4 fun j _ => rb_imp fun hj => ?_
  obtain ⟨i, hi, e⟩ := rb_has_at hj
  obtain ⟨p, q, p5, q5, e1, e2, e3⟩ := h _ (j + 1) (hp.1 i hi) (by omega) (by omega)
  exact rb_st_of hp p5 q5 e1 e2 e3
theorem rb_K1_of (hp : rb_pm a b A B f) (h : rb_k1 s t) : rb_K1 (rb_v (s a) (s b) (s A) (s B) (s f)) (rb_v (t a) (t b) (t A) (t B) (t f)) = true := by
  rw [rb_v_map, rb_v_map]
  obtain ⟨j0, h⟩ := h
  have key : ∀ i0, (∀ j, j < 4 → j ≠ i0 → j + 1 ≠ j0) → i0 < 4 → rb_K1 (fun i => s (rb_v a b A B f i)) (fun i => t (rb_v a b A B f i)) = true := by
    intro i0 hi0 h4
    refine rb_any_of 4 h4 (rb_all_of 4 fun j hj4 => ?_)
    by_cases e : j = i0
    · rw [rb_beq e]; rfl
    · rw [Bool.or_eq_true]
      refine Or.inr (rb_imp fun hj => ?_)
      obtain ⟨i, hi, e'⟩ := rb_has_at hj
      obtain ⟨p, q, p5, q5, e1, e2, e3⟩ := h _ (j + 1) (hi0 j hj4 e) (hp.1 i hi) (by omega) (by omega)
      exact rb_st_of hp p5 q5 e1 e2 e3
  by_cases c : 1 ≤ j0 ∧ j0 ≤ 4
  · exact key (j0 - 1) (by omega) (by omega)
  · exact key 0 (by omega) (by omega)
theorem rb_nt {X : Bool} (h : X = true) (h' : (!X) = true) : False := by rw [h] at h'; cases h'
theorem rb_ok_at {c x : Nat} {t0 t1 t2 t3 t4 : Nat} (h : rb_ok c x (rb_v t0 t1 t2 t3 t4) = true) : 4 * (t0 + t1) + x ≤ c + 4 * (t2 + t3) + rb_phi (t0 + t1 - (t2 + t3)) t4 :=
  Nat.le_of_ble_eq_true h
theorem rb_c1 (hp : rb_pm a b A B f) (hs : rb_LV s) (ht : rb_LV t) (hk : rb_k0 s t) :
    4 * (t a + t b) + rb_phi (s a + s b - (s A + s B)) (s f) ≤ 14 + 4 * (t A + t B) + rb_phi (t a + t b - (t A + t B)) (t f) := by
  have l1 := rb_lv_of hp hs
  have l2 := rb_lv_of hp ht
  have k := rb_K0_of hp hk
  have b1 : ∀ x, s x < 5 := fun x => Nat.lt_succ_of_le (hs.1 x)
  have b2 : ∀ x, t x < 5 := fun x => Nat.lt_succ_of_le (ht.1 x)
  have h0 := rb_all5_at rb_chk0 (b2 a) (b2 b) (b2 A) (b2 B) (b2 f)
  have h1 := rb_all5_at rb_chk1 (b1 a) (b1 b) (b1 A) (b1 B) (b1 f)
  rcases (Bool.or_eq_true _ _).mp h1 with h1 | h1
  · have e : rb_phi (s a + s b - (s A + s B)) (s f) = 0 := Nat.eq_of_beq_eq_true h1
    rcases (Bool.or_eq_true _ _).mp h0 with h0 | h0
    · have := rb_ok_at h0
      omega
    · exact absurd (rb_nt l2 h0) id
  · rcases (Bool.or_eq_true _ _).mp h1 with h1 | h1
    · exact absurd (rb_nt l1 h1) id
    · have h2 := rb_all5_at h1 (b2 a) (b2 b) (b2 A) (b2 B) (b2 f)
      rcases (Bool.or_eq_true _ _).mp h2 with h2 | h2
      · exact rb_ok_at h2
      · rcases (Bool.or_eq_true _ _).mp h2 with h2 | h2
        · exact absurd (rb_nt l2 h2) id
        · exact absurd (rb_nt k h2) id
theorem rb_c3 (hp : rb_pm a b A B f) (hs : rb_LV s) (ht : rb_LV t) (hk : rb_k1 s t) :
    4 * (t a + t b) + rb_phi (s a + s b - (s A + s B)) (s f) ≤ 21 + 4 * (t A + t B) + rb_phi (t a + t b - (t A + t B)) (t f) := by
  have l1 := rb_lv_of hp hs
  have l2 := rb_lv_of hp ht
  have k := rb_K1_of hp hk
  have b1 : ∀ x, s x < 5 := fun x => Nat.lt_succ_of_le (hs.1 x)
  have b2 : ∀ x, t x < 5 := fun x => Nat.lt_succ_of_le (ht.1 x)
  have h0 := rb_all5_at rb_chk3a (b2 a) (b2 b) (b2 A) (b2 B) (b2 f)
  have h1 := rb_all5_at rb_chk3 (b1 a) (b1 b) (b1 A) (b1 B) (b1 f)
  rcases (Bool.or_eq_true _ _).mp h1 with h1 | h1
  · have e : rb_phi (s a + s b - (s A + s B)) (s f) ≤ 7 := Nat.le_of_ble_eq_true h1
    rcases (Bool.or_eq_true _ _).mp h0 with h0 | h0
    · have := rb_ok_at h0
      omega
    · exact absurd (rb_nt l2 h0) id
  · rcases (Bool.or_eq_true _ _).mp h1 with h1 | h1
    · exact absurd (rb_nt l1 h1) id
    · have h2 := rb_all5_at h1 (b2 a) (b2 b) (b2 A) (b2 B) (b2 f)
      rcases (Bool.or_eq_true _ _).mp h2 with h2 | h2
      · exact rb_ok_at h2
      · rcases (Bool.or_eq_true _ _).mp h2 with h2 | h2
        · exact absurd (rb_nt l2 h2) id
        · exact absurd (rb_nt k h2) id
theorem rb_c2 (hp : rb_pm a b A B f) (ht : rb_LV t) (h2 : ∀ x, x < 5 → t x ≤ 2) (h1 : ∀ x, x < 5 → t x = 2 → ∃ p q, p < 5 ∧ q < 5 ∧ p ≠ q ∧ t p = 1 ∧ t q = 1) :
    4 * (t a + t b) + rb_phi (s a + s b - (s A + s B)) (s f) ≤ 14 + 4 * (t A + t B) + rb_phi (t a + t b - (t A + t B)) (t f) := by
  have l2 := rb_lv_of hp ht
  have b2 : ∀ x, t x < 5 := fun x => Nat.lt_succ_of_le (ht.1 x)
  have hw : rb_w1 (rb_v (t a) (t b) (t A) (t B) (t f)) = true := by
    rw [rb_v_map]
    rw [rb_w1, Bool.and_eq_true]
    refine ⟨rb_all_of 5 fun i hi => Nat.ble_eq_true_of_le (h2 _ (hp.1 i hi)), rb_imp fun hh => ?_⟩
    obtain ⟨i, hi, e⟩ := rb_has_at hh
    obtain ⟨p, q, p5, q5, hne, e1, e2⟩ := h1 _ (hp.1 i hi) e
    obtain ⟨i1, hi1, ei1⟩ := hp.2 p p5
    obtain ⟨i2, hi2, ei2⟩ := hp.2 q q5
    refine rb_any_of 5 hi1 (rb_any_of 5 hi2 ?_)
    rw [Bool.and_eq_true, Bool.and_eq_true]
    refine ⟨?_, rb_beq (by rw [ei1]; exact e1), rb_beq (by rw [ei2]; exact e2)⟩
    have hn : i1 ≠ i2 := fun e => hne (by rw [← ei1, ← ei2, e])
    cases hb : Nat.beq i1 i2
    · rfl
    · exact absurd (Nat.eq_of_beq_eq_true hb) hn
  have := rb_phi_le (s a + s b - (s A + s B)) (s f)
  have h0 := rb_all5_at rb_chk2 (b2 a) (b2 b) (b2 A) (b2 B) (b2 f)
  rcases (Bool.or_eq_true _ _).mp h0 with h0 | h0
  · have := rb_ok_at h0
    omega
  · rcases (Bool.or_eq_true _ _).mp h0 with h0 | h0
    · exact absurd (rb_nt l2 h0) id
    · exact absurd (rb_nt hw h0) id
theorem rb_c4 (hp : rb_pm a b A B f) (ht : rb_LV t) (h3 : ∀ x, x < 5 → t x ≠ 4) :
    4 * (t a + t b) + rb_phi (s a + s b - (s A + s B)) (s f) ≤ 21 + 4 * (t A + t B) + rb_phi (t a + t b - (t A + t B)) (t f) := by
  have l2 := rb_lv_of hp ht
  have b2 : ∀ x, t x < 5 := fun x => Nat.lt_succ_of_le (ht.1 x)
  have := rb_phi_le (s a + s b - (s A + s B)) (s f)
  have h0 := rb_all5_at rb_chk4 (b2 a) (b2 b) (b2 A) (b2 B) (b2 f)
  rcases (Bool.or_eq_true _ _).mp h0 with h0 | h0
  · have := rb_ok_at h0
    omega
  · rcases (Bool.or_eq_true _ _).mp h0 with h0 | h0
    · exact absurd (rb_nt l2 h0) id
    · rw [rb_v_map] at h0
      obtain ⟨i, hi, e⟩ := rb_has_at h0
      exact absurd e (h3 _ (hp.1 i hi))
theorem rb_c5 (hp : rb_pm a b A B f) (ht : rb_LV t) :
    4 * (t a + t b) + rb_phi (s a + s b - (s A + s B)) (s f) ≤ 28 + 4 * (t A + t B) + rb_phi (t a + t b - (t A + t B)) (t f) := by
  have l2 := rb_lv_of hp ht
  have b2 : ∀ x, t x < 5 := fun x => Nat.lt_succ_of_le (ht.1 x)
  have := rb_phi_le (s a + s b - (s A + s B)) (s f)
  have h0 := rb_all5_at rb_chk5 (b2 a) (b2 b) (b2 A) (b2 B) (b2 f)
  rcases (Bool.or_eq_true _ _).mp h0 with h0 | h0
  · have := rb_ok_at h0
    omega
  · exact absurd (rb_nt l2 h0) id
theorem rb_s1 (hp : rb_pm a b A B f) (hs : rb_LV s) (ht : rb_LV t) (hk : rb_k0 s t) : 4 * t a + rb_ps (s a) (s A) ≤ 14 + 4 * t A + rb_ps (t a) (t A) := by
  have l1 := rb_lv_of hp hs
  have l2 := rb_lv_of hp ht
  have k := rb_K0_of hp hk
  have b1 : ∀ x, s x < 5 := fun x => Nat.lt_succ_of_le (hs.1 x)
  have b2 : ∀ x, t x < 5 := fun x => Nat.lt_succ_of_le (ht.1 x)
  have h2 := b2 a
  by_cases e1 : t a = t A + 4
  · by_cases e2 : s a = s A + 4
    · have h1 := rb_all5_at rb_chk1s (b1 a) (b1 b) (b1 A) (b1 B) (b1 f)
      rcases (Bool.or_eq_true _ _).mp h1 with h1 | h1
      · exact absurd (rb_nt (rb_beq e2) h1) id
      · rcases (Bool.or_eq_true _ _).mp h1 with h1 | h1
        · exact absurd (rb_nt l1 h1) id
        · have h2 := rb_all5_at h1 (b2 a) (b2 b) (b2 A) (b2 B) (b2 f)
          rcases (Bool.or_eq_true _ _).mp h2 with h2 | h2
          · exact absurd (rb_nt (rb_beq e1) h2) id
          · rcases (Bool.or_eq_true _ _).mp h2 with h2 | h2
            · exact absurd (rb_nt l2 h2) id
            · exact absurd (rb_nt k h2) id
    · unfold rb_ps
      rw [if_neg e2, if_pos e1]
      omega
  · have := rb_ps_le (s a) (s A)
    omega
theorem rb_s2 (ht : rb_LV t) (h2 : t a ≤ 2) : 4 * t a + rb_ps (s a) (s A) ≤ 14 + 4 * t A + rb_ps (t a) (t A) := by
  have := rb_ps_le (s a) (s A)
  omega
theorem rb_s3 (ht : rb_LV t) : 4 * t a + rb_ps (s a) (s A) ≤ 21 + 4 * t A + rb_ps (t a) (t A) := by
  have := rb_ps_le (s a) (s A)
  have := ht.1 a
  omega
end
/-- the zero drop is as good as any -/
def rb_Cl (F T w d : Nat → Nat) (m n : Nat) : Prop := ∀ p t, rb_Fe F T w d m n p t → rb_Fe F T w d m n p (fun _ => 0)
def rb_Old (F T w : Nat → Nat) (m : Nat) (s : Nat → Nat) : Prop := ∀ i, i < m → w i = 0 → s (F i) ≤ s (T i)
def rb_Old1 (F T w : Nat → Nat) (m : Nat) (s : Nat → Nat) : Prop := ∃ e, ∀ i, i < m → i ≠ e → w i = 0 → s (F i) ≤ s (T i)
def rb_Mo (F T w d : Nat → Nat) (m n nn : Nat) (s : Nat → Nat) : Prop :=
  (nn = 0 ∧ rb_Cl F T w d m n ∧ rb_Old F T w m s) ∨ (nn = 1 ∧ rb_Old F T w m s) ∨ (nn = 1 ∧ rb_Old1 F T w m s ∧ ∃ m', m = m' + 1 ∧ rb_Cl F T w d m' n) ∨
  (nn = 2 ∧ rb_Old1 F T w m s) ∨ (nn = 2 ∧ ∃ m', m = m' + 2 ∧ rb_Cl F T w d m' n) ∨ nn = 3
/-- the ghosts at the turn with first cell k -/
def rb_Gh (F T w d : Nat → Nat) (m n k : Nat) : Prop :=
  ∃ tau s nn, rb_LV s ∧ 4 * (tau + nn) ≤ k + 11 ∧ rb_Bd F T w m tau s ∧ rb_Mo F T w d m n nn s
section
variable {F T w d w' F' T' d' t s : Nat → Nat} {m n p k : Nat}
theorem rb_tel (hw : ∀ i, i < m → w' i + t (T i) = w i + t (F i)) : ∀ (q : List Nat) (u v : Nat), rb_W F T m u v q → rb_r w' q + t v = rb_r w q + t u := by
  intro q
  induction q with
  | nil => intro u v e; have e : u = v := e; rw [e]; rfl
  | cons i q ih =>
    intro u v ⟨h1, h2, h3⟩
    have := ih _ _ h3
    have := hw i h1
    rw [h2] at this
    simp only [rb_r]; omega
theorem rb_Fe_move (hw : ∀ i, i < m → w' i + t (T i) = w i + t (F i)) {t' : Nat → Nat} {p : Nat} (h : rb_Fe F T w' d m n p t') : rb_Fe F T w d m n p (fun x => t x + t' x) := by
  refine ⟨fun i hi => ?_, fun u v q hu hq he => ?_⟩
  · have := hw i hi
    have := h.1 i hi
    show t (T i) + t' (T i) ≤ w i + (t (F i) + t' (F i))
    omega
  · have h1 := rb_tel hw q u v hq
    have he : rb_r w q + (t u + t' u) = t v + t' v := he
    exact h.2 u v q hu hq (by omega)
theorem rb_Fe_moved (hw : ∀ i, i < m → w' i + t (T i) = w i + t (F i)) {p : Nat} (h : rb_Fe F T w d m n p t) : rb_Fe F T w' d m n p (fun _ => 0) := by
  refine ⟨fun i _ => Nat.zero_le _, fun u v q hu hq he => ?_⟩
  have h1 := rb_tel hw q u v hq
  have he : rb_r w' q + 0 = 0 := he
  exact h.2 u v q hu hq (by omega)
theorem rb_Cl_apply (h : rb_Op F T w d m n p t) (hw : ∀ i, i < m → w' i + t (T i) = w i + t (F i)) : rb_Cl F T w' d m n := by
  intro p' t' f'
  exact rb_Fe_mono (h.2 p' _ (rb_Fe_move hw f')) (rb_Fe_moved hw h.1.1)
theorem rb_LV_of (hF : ∀ i, i < m → F i < n) (hT : ∀ i, i < m → T i < n) (hn : n ≤ 5) (h : rb_Le F T w d m n p t) : rb_LV t := by
  refine ⟨rb_le4 hF hT hn h, ?_⟩
  intro x j _ hj hx
  have hxn : x < n := by
    rcases Nat.lt_or_ge x n with h1 | h1
    · exact h1
    · have := h.2.1 x h1; omega
  obtain ⟨_, _, _, _, _, _, _, _, i, _, him, _, _, h2⟩ := rb_jump2 h hxn hj hx
  exact ⟨T i, Nat.lt_of_lt_of_le (hT i him) hn, h2⟩
theorem rb_k0_of (hF : ∀ i, i < m → F i < n) (hT : ∀ i, i < m → T i < n) (hn : n ≤ 5) (h : rb_Le F T w d m n p t) (ho : rb_Old F T w m s) : rb_k0 s t := by
  intro x j _ hj hx
  have hxn : x < n := by
    rcases Nat.lt_or_ge x n with h1 | h1
    · exact h1
    · have := h.2.1 x h1; omega
  obtain ⟨_, _, _, _, _, _, _, _, i, _, him, hz, h1, h2⟩ := rb_jump2 h hxn hj hx
  exact ⟨F i, T i, Nat.lt_of_lt_of_le (hF i him) hn, Nat.lt_of_lt_of_le (hT i him) hn, h1, h2, ho i him hz⟩
theorem rb_k1_of (hF : ∀ i, i < m → F i < n) (hT : ∀ i, i < m → T i < n) (hn : n ≤ 5) (h : rb_Le F T w d m n p t) (ho : rb_Old1 F T w m s) : rb_k1 s t := by
  obtain ⟨e, ho⟩ := ho
  refine ⟨t (F e), ?_⟩
  intro x j hje _ hj hx
  have hxn : x < n := by
    rcases Nat.lt_or_ge x n with h1 | h1
    · exact h1
    · have := h.2.1 x h1; omega
  obtain ⟨_, _, _, _, _, _, _, _, i, _, him, hz, h1, h2⟩ := rb_jump2 h hxn hj hx
  exact ⟨F i, T i, Nat.lt_of_lt_of_le (hF i him) hn, Nat.lt_of_lt_of_le (hT i him) hn, h1, h2, ho i him (fun e' => hje (by rw [← h1, e'])) hz⟩
/-- with the last wires new over a clean circuit, every jump's walk goes over a new one -/
theorem rb_new {m' : Nat} (hm : m' ≤ m) (hS : rb_S F T w m) (hc : rb_Cl F T w d m' n) (h : rb_Le F T w d m n p t) {x j : Nat} (hx : x < n) (hj : 1 ≤ j) (hjx : j ≤ t x) :
    ∃ i, m' ≤ i ∧ i < m ∧ (t (F i) = j ∨ t (F i) + 1 = j) ∧ (t (T i) = j ∨ t (T i) + 1 = j) ∧ F i ≠ T i := by
  obtain ⟨u, v, q, hu, hq, hr, hd, hall, _⟩ := rb_jump2 h hx hj hjx
  have hsub : ∀ (q : List Nat) (u v : Nat), rb_W F T m u v q → (∀ i, i ∈ q → i < m') → rb_W F T m' u v q := by
    intro q
    induction q with
    | nil => intro u v h _; exact h
    | cons i q ih => intro u v h hi; exact ⟨hi i (by simp), h.2.1, ih _ _ h.2.2 (fun i' h' => hi i' (List.mem_cons_of_mem _ h'))⟩
  have hup : ∀ (q : List Nat) (u v : Nat), rb_W F T m' u v q → rb_W F T m u v q := by
    intro q
    induction q with
    | nil => intro u v h; exact h
    | cons i q ih => intro u v h; exact ⟨Nat.lt_of_lt_of_le h.1 hm, h.2.1, ih _ _ h.2.2⟩
  have hex : ∃ i, i ∈ q ∧ m' ≤ i := by
    refine Classical.byContradiction fun hno => ?_
    have hall' : ∀ i, i ∈ q → i < m' := by
      intro i hi
      rcases Nat.lt_or_ge i m' with h1 | h1
      · exact h1
      · exact absurd ⟨i, hi, h1⟩ hno
    have hf : rb_Fe F T w d m' n p t := ⟨fun i hi => h.1.1 i (by omega), fun u v q hu hq he => h.1.2 u v q hu (hup q u v hq) he⟩
    have := (hc p t hf).2 u v q hu (hsub q u v hq hall') (by show rb_r w q + 0 = 0; omega)
    omega
  obtain ⟨i, hi, hi'⟩ := hex
  have him := rb_W_mem q u v hq i hi
  have hh := hall i hi
  refine ⟨i, hi', him, hh.1, hh.2.1, ?_⟩
  intro e
  have := hS (F i) [i] (by simp) ⟨him, rfl, e.symm⟩
  simp only [rb_r] at this
  omega
theorem rb_w1_of (hF : ∀ i, i < m + 1 → F i < n) (hT : ∀ i, i < m + 1 → T i < n) (hn : n ≤ 5) (hS : rb_S F T w (m + 1)) (hc : rb_Cl F T w d m n)
    (h : rb_Le F T w d (m + 1) n p t) : (∀ x, x < 5 → t x ≤ 2) ∧ ∀ x, x < 5 → t x = 2 → ∃ p q, p < 5 ∧ q < 5 ∧ p ≠ q ∧ t p = 1 ∧ t q = 1 := by
  have hxn : ∀ x, 1 ≤ t x → x < n := by
    intro x hx
    rcases Nat.lt_or_ge x n with h1 | h1
    · exact h1
    · have := h.2.1 x h1; omega
  have key : ∀ x j, 1 ≤ j → j ≤ t x → (t (F m) = j ∨ t (F m) + 1 = j) ∧ (t (T m) = j ∨ t (T m) + 1 = j) ∧ F m ≠ T m := by
    intro x j hj hx
    obtain ⟨i, h1, h2, h3⟩ := rb_new (m' := m) (by omega) hS hc h (hxn x (by omega)) hj hx
    have e : i = m := by omega
    rw [e] at h3
    exact h3
  refine ⟨?_, ?_⟩
  · intro x _
    refine Classical.byContradiction fun hc => ?_
    have k1 := key x 1 (by omega) (by omega)
    have k3 := key x 3 (by omega) (by omega)
    omega
  · intro x _ e
    have k1 := key x 1 (by omega) (by omega)
    have k2 := key x 2 (by omega) (by omega)
    exact ⟨F m, T m, Nat.lt_of_lt_of_le (hF m (by omega)) hn, Nat.lt_of_lt_of_le (hT m (by omega)) hn, k1.2.2, by omega, by omega⟩
theorem rb_five {t : Nat → Nat} (h : ∀ j, j ≤ 4 → ∃ y, y < 5 ∧ t y = j) {p q : Nat} (hp : p < 5) (hq : q < 5) (hne : p ≠ q) (he : t p = t q) : False := by
  obtain ⟨y0, b0, e0⟩ := h 0 (by omega)
  obtain ⟨y1, b1, e1⟩ := h 1 (by omega)
  obtain ⟨y2, b2, e2⟩ := h 2 (by omega)
  obtain ⟨y3, b3, e3⟩ := h 3 (by omega)
  obtain ⟨y4, b4, e4⟩ := h 4 (by omega)
  have hn : ∀ a b, t a ≠ t b → a ≠ b := fun a b hh e => hh (by rw [e])
  have hnd : [y0, y1, y2, y3, y4].Nodup := by
    simp only [List.nodup_cons, List.mem_cons, List.not_mem_nil, or_false, not_or, List.nodup_nil, and_true, not_false_eq_true]
    refine ⟨⟨?_, ?_, ?_, ?_⟩, ⟨?_, ?_, ?_⟩, ⟨?_, ?_⟩, ?_⟩ <;> apply hn <;> omega
  have hin : ∀ x, x < 5 → x ∈ [y0, y1, y2, y3, y4] := by
    intro x hx
    refine Classical.byContradiction fun hc => ?_
    have := rb_pig 5 (x :: [y0, y1, y2, y3, y4]) (List.nodup_cons.mpr ⟨hc, hnd⟩) (by
      intro z hz
      simp only [List.mem_cons, List.not_mem_nil, or_false] at hz
      rcases hz with rfl | rfl | rfl | rfl | rfl | rfl <;> assumption)
    simp at this
  have h1 := hin p hp
  have h2 := hin q hq
  simp only [List.mem_cons, List.not_mem_nil, or_false] at h1 h2
  rcases h1 with rfl | rfl | rfl | rfl | rfl <;> rcases h2 with rfl | rfl | rfl | rfl | rfl <;> omega
theorem rb_w2_of (hF : ∀ i, i < m + 2 → F i < n) (hT : ∀ i, i < m + 2 → T i < n) (hn : n ≤ 5) (hS : rb_S F T w (m + 2)) (hc : rb_Cl F T w d m n)
    (h : rb_Le F T w d (m + 2) n p t) : ∀ x, x < 5 → t x ≠ 4 := by
  intro x _ e
  have hxn : x < n := by
    rcases Nat.lt_or_ge x n with h1 | h1
    · exact h1
    · have := h.2.1 x h1; omega
  have h5 : ∀ j, j ≤ 4 → ∃ y, y < 5 ∧ t y = j := by
    intro j hj
    by_cases h4 : j = 4
    · exact ⟨x, by omega, by omega⟩
    · obtain ⟨_, _, _, _, _, _, _, _, i, _, him, _, _, h2⟩ := rb_jump2 h hxn (j := j + 1) (by omega) (by omega)
      exact ⟨T i, Nat.lt_of_lt_of_le (hT i him) hn, by omega⟩
  have key : ∀ j, 1 ≤ j → j ≤ 4 → ((t (F m) = j ∧ t (T m) + 1 = j) ∨ (t (F m) + 1 = j ∧ t (T m) = j)) ∨ ((t (F (m + 1)) = j ∧ t (T (m + 1)) + 1 = j) ∨ (t (F (m + 1)) + 1 = j ∧ t (T (m + 1)) = j)) := by
    intro j hj hj4
    obtain ⟨i, h1, h2, h3, h4, h6⟩ := rb_new (m' := m) (by omega) hS hc h hxn hj (by omega)
    have hne : t (F i) ≠ t (T i) := fun e => rb_five h5 (Nat.lt_of_lt_of_le (hF i h2) hn) (Nat.lt_of_lt_of_le (hT i h2) hn) h6 e
    have hi : i = m ∨ i = m + 1 := by omega
    rcases hi with rfl | rfl
    · left; omega
    · right; omega
  have k1 := key 1 (by omega) (by omega)
  have k2 := key 2 (by omega) (by omega)
  have k3 := key 3 (by omega) (by omega)
  omega
end
end
section
/-! the ghosts over each kind of turn -/
section
variable {F T w d w' F' T' d' t s : Nat → Nat} {m n p k : Nat}
theorem rb_W_congr (hF : ∀ i, i < m → F' i = F i) (hT : ∀ i, i < m → T' i = T i) : ∀ (q : List Nat) (u v : Nat), rb_W F' T' m u v q → rb_W F T m u v q := by
  intro q
  induction q with
  | nil => intro u v h; exact h
  | cons i q ih =>
    intro u v ⟨h1, h2, h3⟩
    rw [hT i h1] at h3
    exact ⟨h1, by rw [← hF i h1]; exact h2, ih _ _ h3⟩
theorem rb_Fe_congr (hF : ∀ i, i < m → F' i = F i) (hT : ∀ i, i < m → T' i = T i) (hw : ∀ i, i < m → w' i = w i) (h : rb_Fe F T w d m n p t) : rb_Fe F' T' w' d m n p t := by
  refine ⟨fun i hi => ?_, fun u v q hu hq he => ?_⟩
  · rw [hF i hi, hT i hi, hw i hi]; exact h.1 i hi
  · have hmem := rb_W_mem q u v hq
    have e1 : rb_r w' q = rb_r w q := rb_r_congr q (fun i hi => hw i (hmem i hi))
    have e2 : rb_r (fun i => d (T' i)) q = rb_r (fun i => d (T i)) q := rb_r_congr q (fun i hi => by rw [hT i (hmem i hi)])
    rw [e1] at he
    rw [e2]
    exact h.2 u v q hu (rb_W_congr hF hT q u v hq) he
theorem rb_Cl_congr (hF : ∀ i, i < m → F' i = F i) (hT : ∀ i, i < m → T' i = T i) (hw : ∀ i, i < m → w' i = w i) (h : rb_Cl F T w d m n) : rb_Cl F' T' w' d m n := by
  intro p t hf
  exact rb_Fe_congr hF hT hw (h p t (rb_Fe_congr (fun i hi => (hF i hi).symm) (fun i hi => (hT i hi).symm) (fun i hi => (hw i hi).symm) hf))
theorem rb_Old_congr (hF : ∀ i, i < m → F' i = F i) (hT : ∀ i, i < m → T' i = T i) (hw : ∀ i, i < m → w' i = w i) (h : rb_Old F T w m s) : rb_Old F' T' w' m s := by
  intro i hi hz
  rw [hF i hi, hT i hi]
  exact h i hi (by rw [← hw i hi]; exact hz)
theorem rb_Old1_congr (hF : ∀ i, i < m → F' i = F i) (hT : ∀ i, i < m → T' i = T i) (hw : ∀ i, i < m → w' i = w i) (h : rb_Old1 F T w m s) : rb_Old1 F' T' w' m s := by
  obtain ⟨e, h⟩ := h
  refine ⟨e, fun i hi hne hz => ?_⟩
  rw [hF i hi, hT i hi]
  exact h i hi hne (by rw [← hw i hi]; exact hz)
theorem rb_Old_1 (h : rb_Old F T w m s) : rb_Old1 F T w m s := ⟨m, fun i hi _ hz => h i hi hz⟩
theorem rb_Mo_congr {nn : Nat} (hF : ∀ i, i < m → F' i = F i) (hT : ∀ i, i < m → T' i = T i) (hw : ∀ i, i < m → w' i = w i) (h : rb_Mo F T w d m n nn s) : rb_Mo F' T' w' d m n nn s := by
  rcases h with ⟨e, h1, h2⟩ | ⟨e, h1⟩ | ⟨e, h1, m', e', h2⟩ | ⟨e, h1⟩ | ⟨e, m', e', h1⟩ | e
  · exact Or.inl ⟨e, rb_Cl_congr hF hT hw h1, rb_Old_congr hF hT hw h2⟩
  · exact Or.inr (Or.inl ⟨e, rb_Old_congr hF hT hw h1⟩)
  · exact Or.inr (Or.inr (Or.inl ⟨e, rb_Old1_congr hF hT hw h1, m', e', rb_Cl_congr (fun i hi => hF i (by omega)) (fun i hi => hT i (by omega)) (fun i hi => hw i (by omega)) h2⟩))
  · exact Or.inr (Or.inr (Or.inr (Or.inl ⟨e, rb_Old1_congr hF hT hw h1⟩)))
  · exact Or.inr (Or.inr (Or.inr (Or.inr (Or.inl ⟨e, m', e', rb_Cl_congr (fun i hi => hF i (by omega)) (fun i hi => hT i (by omega)) (fun i hi => hw i (by omega)) h1⟩))))
  · exact Or.inr (Or.inr (Or.inr (Or.inr (Or.inr e))))
theorem rb_Gh_congr (hF : ∀ i, i < m → F' i = F i) (hT : ∀ i, i < m → T' i = T i) (hw : ∀ i, i < m → w' i = w i) (h : rb_Gh F T w d m n k) : rb_Gh F' T' w' d m n k := by
  obtain ⟨tau, s, nn, h1, h2, h3, h4⟩ := h
  exact ⟨tau, s, nn, h1, h2, rb_Bd_congr h3 hF hT hw, rb_Mo_congr hF hT hw h4⟩
theorem rb_Gh_up (h : rb_Gh F T w d m n k) : rb_Gh F T w d m n (k + 4) := by
  obtain ⟨tau, s, nn, h1, h2, h3, h4⟩ := h
  exact ⟨tau, s, nn, h1, by omega, h3, h4⟩
/-- after a change without a new wire -/
theorem rb_Mo_some {nn : Nat} (h : rb_Mo F T w d m n nn s) : (nn ≤ 1 ∧ rb_Old1 F T w m s) ∨ 2 ≤ nn ∧ nn ≤ 3 := by
  rcases h with ⟨e, h1, h2⟩ | ⟨e, h1⟩ | ⟨e, h1, m', e', h2⟩ | ⟨e, h1⟩ | ⟨e, m', e', h1⟩ | e
  · exact Or.inl ⟨by omega, rb_Old_1 h2⟩
  · exact Or.inl ⟨by omega, rb_Old_1 h1⟩
  · exact Or.inl ⟨by omega, h1⟩
  · exact Or.inr (by omega)
  · exact Or.inr (by omega)
  · exact Or.inr (by omega)
theorem rb_Mo_0 {nn : Nat} (h : rb_Mo F T w d m n nn s) : (nn = 0 ∧ rb_Old F T w m s) ∨ (nn = 1 ∧ rb_Old1 F T w m s) ∨ 2 ≤ nn ∧ nn ≤ 3 := by
  rcases h with ⟨e, h1, h2⟩ | ⟨e, h1⟩ | ⟨e, h1, m', e', h2⟩ | ⟨e, h1⟩ | ⟨e, m', e', h1⟩ | e
  · exact Or.inl ⟨by omega, h2⟩
  · exact Or.inr (Or.inl ⟨by omega, rb_Old_1 h1⟩)
  · exact Or.inr (Or.inl ⟨by omega, h1⟩)
  · exact Or.inr (Or.inr (by omega))
  · exact Or.inr (Or.inr (by omega))
  · exact Or.inr (Or.inr (by omega))
theorem rb_Gh_delay (h : rb_Gh F T w d m n k) : rb_Gh F T w d' m n (k + 4) := by
  obtain ⟨tau, s, nn, h1, h2, h3, h4⟩ := h
  rcases rb_Mo_0 h4 with ⟨e, ho⟩ | ⟨e, ho⟩ | e
  · exact ⟨tau, s, 1, h1, by omega, h3, Or.inr (Or.inl ⟨rfl, ho⟩)⟩
  · exact ⟨tau, s, 2, h1, by omega, h3, Or.inr (Or.inr (Or.inr (Or.inl ⟨rfl, ho⟩)))⟩
  · exact ⟨tau, s, 3, h1, by omega, h3, Or.inr (Or.inr (Or.inr (Or.inr (Or.inr rfl))))⟩
theorem rb_Gh_cut {c : Nat} (hc : c ≤ m)
    (hF : ∀ i, i < m → F' i = F (if i < c then i else i + 1)) (hT : ∀ i, i < m → T' i = T (if i < c then i else i + 1))
    (hw : ∀ i, i < m → w' i = w (if i < c then i else i + 1)) (h : rb_Gh F T w d (m + 1) n k) : rb_Gh F' T' w' d m n (k + 4) := by
  obtain ⟨tau, s, nn, h1, h2, h3, h4⟩ := h
  have hb := rb_Bd_cut h3 hc hF hT hw
  have hlt : ∀ i, i < m → (if i < c then i else i + 1) < m + 1 := by
    intro i hi; split <;> omega
  rcases rb_Mo_0 h4 with ⟨e, ho⟩ | ⟨e, ho⟩ | e
  · refine ⟨tau, s, 1, h1, by omega, hb, Or.inr (Or.inl ⟨rfl, ?_⟩)⟩
    intro i hi hz
    rw [hF i hi, hT i hi]
    exact ho _ (hlt i hi) (by rw [← hw i hi]; exact hz)
  · refine ⟨tau, s, 2, h1, by omega, hb, Or.inr (Or.inr (Or.inr (Or.inl ⟨rfl, ?_⟩)))⟩
    obtain ⟨x, ho⟩ := ho
    refine ⟨if x < c then x else x - 1, ?_⟩
    intro i hi hne hz
    rw [hF i hi, hT i hi]
    refine ho _ (hlt i hi) ?_ (by rw [← hw i hi]; exact hz)
    intro e'
    apply hne
    by_cases c1 : i < c
    · rw [if_pos c1] at e'
      rw [if_pos (by omega)]
      exact e'
    · rw [if_neg c1] at e'
      rw [if_neg (by omega)]
      omega
  · exact ⟨tau, s, 3, h1, by omega, hb, Or.inr (Or.inr (Or.inr (Or.inr (Or.inr rfl))))⟩
theorem rb_Gh_wire (hF5 : ∀ i, i < m → F i < 5) (hT5 : ∀ i, i < m → T i < 5) (hF : ∀ i, i < m → F' i = F i) (hT : ∀ i, i < m → T' i = T i)
    (hw : ∀ i, i < m → w' i = w i) (hw3 : w' m ≤ 3) (h : rb_Gh F T w d m n k) : rb_Gh F' T' w' d (m + 1) n (k + 4) := by
  obtain ⟨tau, s, nn, h1, h2, h3, h4⟩ := h
  have hb := rb_Bd_wire h3 hF5 hT5 hF hT hw hw3
  have ho1 : rb_Old F T w m s → rb_Old1 F' T' w' (m + 1) s := by
    intro ho
    refine ⟨m, fun i hi hne hz => ?_⟩
    have hi : i < m := by omega
    rw [hF i hi, hT i hi]
    exact ho i hi (by rw [← hw i hi]; exact hz)
  rcases h4 with ⟨e, hc, ho⟩ | ⟨e, ho⟩ | ⟨e, _, m', e', hc⟩ | ⟨e, _⟩ | ⟨e, _⟩ | e
  · exact ⟨tau, s, 1, h1, by omega, hb, Or.inr (Or.inr (Or.inl ⟨rfl, ho1 ho, m, rfl, rb_Cl_congr hF hT hw hc⟩))⟩
  · exact ⟨tau, s, 2, h1, by omega, hb, Or.inr (Or.inr (Or.inr (Or.inl ⟨rfl, ho1 ho⟩)))⟩
  · exact ⟨tau, s, 2, h1, by omega, hb, Or.inr (Or.inr (Or.inr (Or.inr (Or.inl ⟨rfl, m', by omega,
      rb_Cl_congr (fun i hi => hF i (by omega)) (fun i hi => hT i (by omega)) (fun i hi => hw i (by omega)) hc⟩))))⟩
  · exact ⟨tau, s, 3, h1, by omega, hb, Or.inr (Or.inr (Or.inr (Or.inr (Or.inr rfl))))⟩
  · exact ⟨tau, s, 3, h1, by omega, hb, Or.inr (Or.inr (Or.inr (Or.inr (Or.inr rfl))))⟩
  · exact ⟨tau, s, 3, h1, by omega, hb, Or.inr (Or.inr (Or.inr (Or.inr (Or.inr rfl))))⟩
theorem rb_Gh_apply (hF : ∀ i, i < m → F i < n) (hT : ∀ i, i < m → T i < n) (hn : n ≤ 5) (hS : rb_S F T w m) (hO : rb_Op F T w d m n p t)
    (hw : ∀ i, i < m → w' i + t (T i) = w i + t (F i)) (h : rb_Gh F T w d m n k) : rb_Gh F T w' d m n (k + 4) := by
  by_cases ht : ∀ x, t x = 0
  · refine rb_Gh_up (rb_Gh_congr (fun _ _ => rfl) (fun _ _ => rfl) (fun i hi => ?_) h)
    have := hw i hi
    rw [ht, ht] at this
    exact this
  · obtain ⟨tau, s, nn, h1, h2, h3, h4⟩ := h
    have hL := hO.1
    have hlv := rb_LV_of hF hT hn hL
    have hcl := rb_Cl_apply hO hw
    have hold : rb_Old F T w' m t := by
      intro i hi hz
      have := hw i hi
      omega
    have fin : ∀ c, c = nn + 1 → rb_Bd F T w' m (tau + c) t → rb_Gh F T w' d m n (k + 4) := fun c hc hb =>
      ⟨tau + c, t, 0, hlv, by omega, hb, Or.inl ⟨rfl, hcl, hold⟩⟩
    rcases h4 with ⟨e, hc, ho⟩ | ⟨e, ho⟩ | ⟨e, _, m', e', hc⟩ | ⟨e, ho⟩ | ⟨e, m', e', hc⟩ | e
    · exfalso
      apply ht
      intro x
      by_cases hx : x < n
      · have := hL.2.2 _ (hc p t hL.1) x hx
        have this : t x ≤ 0 := this
        omega
      · exact hL.2.1 x (by omega)
    · have hk := rb_k0_of hF hT hn hL ho
      exact fin 2 (by omega) (rb_Bd_apply 2 h3 hw (fun a b A B f hp => rb_c1 hp h1 hlv hk) (fun a x A y z hp => rb_s1 hp h1 hlv hk))
    · subst e'
      have hk := rb_w1_of hF hT hn hS hc hL
      exact fin 2 (by omega) (rb_Bd_apply 2 h3 hw (fun a b A B f hp => rb_c2 hp hlv hk.1 hk.2) (fun a x A y z hp => rb_s2 hlv (hk.1 a (hp.1 0 (by omega)))))
    · have hk := rb_k1_of hF hT hn hL ho
      exact fin 3 (by omega) (rb_Bd_apply 3 h3 hw (fun a b A B f hp => rb_c3 hp h1 hlv hk) (fun a x A y z hp => rb_s3 hlv))
    · subst e'
      have hk := rb_w2_of hF hT hn hS hc hL
      exact fin 3 (by omega) (rb_Bd_apply 3 h3 hw (fun a b A B f hp => rb_c4 hp hlv hk) (fun a x A y z hp => rb_s3 hlv))
    · exact fin 4 (by omega) (rb_Bd_apply 4 h3 hw (fun a b A B f hp => rb_c5 hp hlv) (fun a x A y z hp => by have := rb_s3 (s := s) (a := a) (A := A) hlv; omega))
theorem rb_Gh_0 : rb_Gh F T w d 0 n 1 := by
  refine ⟨0, fun _ => 0, 3, ⟨fun _ => Nat.zero_le _, fun x j _ h1 h2 => absurd (Nat.le_trans h1 h2) (by show ¬ 1 ≤ 0; omega)⟩, by omega, ?_, Or.inr (Or.inr (Or.inr (Or.inr (Or.inr rfl))))⟩
  intro p hp
  cases p with
  | nil => exact ⟨fun _ _ _ _ _ _ _ => by simp [rb_r], fun _ _ _ _ _ _ _ => by simp [rb_r], fun _ => by simp [rb_r]⟩
  | cons i p => exact absurd (hp.1 i (by simp)) (by omega)
/-- a way between two blocks, if there is one, has one below 1000 registers -/
theorem rb_Gh_cap (hF : ∀ i, i < m → F i < n) (hT : ∀ i, i < m → T i < n) (hn : n ≤ 5) (hk : k + 4 ≤ 2049) (h : rb_Gh F T w d m n k) {q : List Nat}
    (hs : rb_Si F T m q) : rb_r w q < 1000 := by
  obtain ⟨tau, s, nn, h1, h2, h3, h4⟩ := h
  have h5 := rb_Bd_use (fun i hi => Nat.lt_of_lt_of_le (hF i hi) hn) (fun i hi => Nat.lt_of_lt_of_le (hT i hi) hn) h3 hs
  have h6 := rb_pig 5 _ hs.2.1 (by
    intro x hx
    obtain ⟨i, hi, rfl⟩ := List.mem_map.mp hx
    exact Nat.lt_of_lt_of_le (hF i (hs.1 i hi)) hn)
  rw [List.length_map] at h6
  omega
theorem rb_Gh_wcap (hF : ∀ i, i < m → F i < n) (hT : ∀ i, i < m → T i < n) (hn : n ≤ 5) (hk : k + 4 ≤ 2049) (h : rb_Gh F T w d m n k) {i : Nat} (hi : i < m) : w i < 1000 := by
  have := rb_Gh_cap hF hT hn hk h (q := [i]) ⟨fun j hj => by simp at hj; omega, by simp, by simp⟩
  simpa [rb_r] using this
theorem rb_Gh_walk (hF : ∀ i, i < m → F i < n) (hT : ∀ i, i < m → T i < n) (hn : n ≤ 5) (hk : k + 4 ≤ 2049) (h : rb_Gh F T w d m n k) {u v : Nat} {q : List Nat}
    (hq : q ≠ []) (hw : rb_W F T m u v q) : ∃ q', q' ≠ [] ∧ rb_W F T m u v q' ∧ rb_r w q' ≤ rb_r w q ∧ rb_r w q' < 1000 ∧ q'.length ≤ n := by
  obtain ⟨q', h1, h2, h3, h4, h5, h6⟩ := rb_simp (w := w) hF q.length q u v (Nat.le_refl _) hq hw
  exact ⟨q', h1, h2, h3, rb_Gh_cap hF hT hn hk h ⟨rb_W_mem q' u v h2, h4, h5⟩, h6⟩
end
end
section
/-! least registers and longest delay of a couple: one entry -/
def rb_E (F T w d : Nat → Nat) (m : Nat) (b : Prop) (C : List Nat → Prop) (u v : Nat) (x y : Int32) : Prop :=
  ∃ l D : Nat, x = nI l ∧ l ≤ 1000 ∧ (b → y = nI D ∧ D < 100000) ∧
    (l < 1000 → ∃ q, q ≠ [] ∧ rb_W F T m u v q ∧ rb_r w q = l ∧ (b → d u + rb_r (fun i => d (T i)) q = D)) ∧
    ∀ q, q ≠ [] → rb_W F T m u v q → C q → rb_r w q < 1000 → l ≤ rb_r w q ∧ (b → rb_r w q = l → d u + rb_r (fun i => d (T i)) q ≤ D)
section
variable {F T w d : Nat → Nat} {m n : Nat} {b : Prop} {C C' : List Nat → Prop} {u v : Nat} {x y : Int32}
theorem rb_E_mono (hC : ∀ q, q ≠ [] → rb_W F T m u v q → C' q → C q) (h : rb_E F T w d m b C u v x y) : rb_E F T w d m b C' u v x y := by
  obtain ⟨l, D, h1, h2, h3, h4, h5⟩ := h
  exact ⟨l, D, h1, h2, h3, h4, fun q hq hw hc hr => h5 q hq hw (hC q hq hw hc) hr⟩
theorem rb_dl (hd : ∀ x, d x ≤ 9) : ∀ l : List Nat, rb_r (fun i => d (T i)) l ≤ 9 * l.length := by
  intro l
  induction l with
  | nil => simp [rb_r]
  | cons a l ih => have := hd (T a); simp only [rb_r, List.length_cons]; omega
theorem rb_dl2 (hF : ∀ i, i < m → F i < n) (hT : ∀ i, i < m → T i < n) (hn : n ≤ 5) (hd : ∀ x, d x ≤ 9) (hS : rb_S F T w m) {q : List Nat} (hq : q ≠ []) (hw : rb_W F T m u v q)
    (hr : rb_r w q < 1000) : d u + rb_r (fun i => d (T i)) q ≤ 45000 := by
  have h1 := rb_len hF hT hS hn q.length q u v (Nat.le_refl _) (rb_W_start hF hq hw) hw
  have h2 := rb_dl (T := T) hd q
  have h3 := hd u
  omega
/-- the offer's four ways -/
theorem rb_offer (hE : rb_E F T w d m b C u v x y) (R Yd : Nat) (Y : Int32) (hR : R < 2000) (hY : b → Y = nI Yd ∧ Yd < 100000)
    (hat : R < 1000 → ∃ q, q ≠ [] ∧ rb_W F T m u v q ∧ rb_r w q = R ∧ (b → d u + rb_r (fun i => d (T i)) q = Yd))
    (hdom : ∀ q, q ≠ [] → rb_W F T m u v q → C' q → rb_r w q < 1000 → C q ∨ (R ≤ rb_r w q ∧ (b → rb_r w q = R → d u + rb_r (fun i => d (T i)) q ≤ Yd))) :
    (x < nI R → rb_E F T w d m b C' u v x y) ∧ (¬ x < nI R → ((nI R = x → ((y < Y → rb_E F T w d m b C' u v (nI R) Y) ∧ (¬ y < Y → rb_E F T w d m b C' u v x y))) ∧
      (¬ nI R = x → rb_E F T w d m b C' u v (nI R) Y))) := by
  obtain ⟨l, D, h1, h2, h3, h4, h5⟩ := hE
  subst h1
  have c1 : nI l < nI R ↔ l < R := nI_ltI (by omega) (by omega)
  have c2 : nI R = nI l ↔ R = l := nI_eq (by omega) (by omega)
  rw [c1, c2]
  refine ⟨fun hlt => ?_, fun hnlt => ⟨fun he => ⟨fun hy => ?_, fun hy => ?_⟩, fun hne => ?_⟩⟩
  · refine ⟨l, D, rfl, h2, h3, h4, fun q hq hw hc hr => ?_⟩
    rcases hdom q hq hw hc hr with hc | ⟨g1, g2⟩
    · exact h5 q hq hw hc hr
    · exact ⟨by omega, fun _ e => by omega⟩
  · refine ⟨R, Yd, rfl, by omega, hY, hat, fun q hq hw hc hr => ?_⟩
    rcases hdom q hq hw hc hr with hc | ⟨g1, g2⟩
    · obtain ⟨g1, g2⟩ := h5 q hq hw hc hr
      refine ⟨by omega, fun hb e => ?_⟩
      have g3 := g2 hb (by omega)
      obtain ⟨e1, b1⟩ := h3 hb
      obtain ⟨e2, b2⟩ := hY hb
      rw [e1, e2, nI_ltI (by omega) (by omega)] at hy
      omega
    · exact ⟨g1, g2⟩
  · refine ⟨l, D, rfl, h2, h3, h4, fun q hq hw hc hr => ?_⟩
    rcases hdom q hq hw hc hr with hc | ⟨g1, g2⟩
    · exact h5 q hq hw hc hr
    · refine ⟨by omega, fun hb e => ?_⟩
      have g3 := g2 hb (by omega)
      obtain ⟨e1, b1⟩ := h3 hb
      obtain ⟨e2, b2⟩ := hY hb
      rw [e1, e2, nI_ltI (by omega) (by omega)] at hy
      omega
  · refine ⟨R, Yd, rfl, by omega, hY, hat, fun q hq hw hc hr => ?_⟩
    rcases hdom q hq hw hc hr with hc | ⟨g1, g2⟩
    · obtain ⟨g1, g2⟩ := h5 q hq hw hc hr
      exact ⟨by omega, fun hb e => by omega⟩
    · exact ⟨g1, g2⟩
/-- rounds at the middle block don't better a way from it -/
theorem rb_E_loop {k : Nat} (hb : b → rb_S F T w m) {l D : Nat}
    (h5 : ∀ q, q ≠ [] → rb_W F T m k v q → rb_I T k q → rb_r w q < 1000 → l ≤ rb_r w q ∧ (b → rb_r w q = l → d k + rb_r (fun i => d (T i)) q ≤ D)) :
    ∀ (N : Nat) (q : List Nat), q.length ≤ N → q ≠ [] → rb_W F T m k v q → rb_I T (k + 1) q → rb_r w q < 1000 →
      l ≤ rb_r w q ∧ (b → rb_r w q = l → d k + rb_r (fun i => d (T i)) q ≤ D) := by
  intro N
  induction N with
  | zero =>
    intro q hN hq
    exact absurd (List.eq_nil_of_length_eq_zero (by omega)) hq
  | succ N ih =>
    intro q hN hq hw hI hr
    rcases rb_I_split q k v hw hI with h1 | ⟨p1, p2, e, n1, n2, w1, w2, i1, i2⟩
    · exact h5 q hq hw h1 hr
    · have e1 : rb_r w q = rb_r w p1 + rb_r w p2 := by rw [e, rb_r_app]
      have e2 : q.length = p1.length + p2.length := by rw [e, List.length_append]
      have e3 : 0 < p1.length := List.length_pos_iff.mpr n1
      obtain ⟨g1, g2⟩ := ih p2 (by omega) n2 w2 i2 (by omega)
      refine ⟨by omega, fun hb' e' => ?_⟩
      have := hb hb' k p1 n1 w1
      omega
/-- one couple of the pass over the middle block k -/
theorem rb_E_skip {k : Nat} {x1 y1 x2 y2 : Int32} (hb : b → rb_S F T w m)
    (hE : rb_E F T w d m b (rb_I T k) u v x y) (h1 : rb_E F T w d m b (rb_I T k) u k x1 y1) (h2 : rb_E F T w d m b (rb_I T k) k v x2 y2)
    (hf : (1000 : Int32) ≤ x1 ∨ ¬ x2 < 1000) : rb_E F T w d m b (rb_I T (k + 1)) u v x y := by
  obtain ⟨l, D, a1, a2, a3, a4, a5⟩ := hE
  obtain ⟨l1, D1, b1, b2, b3, b4, b5⟩ := h1
  obtain ⟨l2, D2, c1, c2, c3, c4, c5⟩ := h2
  have hl : 1000 ≤ l1 ∨ 1000 ≤ l2 := by
    rcases hf with hf | hf
    · left
      rw [b1] at hf
      have hf : nI 1000 ≤ nI l1 := hf
      rwa [nI_leI (by omega) (by omega)] at hf
    · right
      rw [c1] at hf
      have hf : ¬ nI l2 < nI 1000 := hf
      rw [nI_ltI (by omega) (by omega)] at hf
      omega
  refine ⟨l, D, a1, a2, a3, a4, fun q hq hw hI hr => ?_⟩
  rcases rb_I_split q u v hw hI with h | ⟨p1, p2, e, n1, n2, w1, w2, i1, i2⟩
  · exact a5 q hq hw h hr
  · exfalso
    have e1 : rb_r w q = rb_r w p1 + rb_r w p2 := by rw [e, rb_r_app]
    have g1 := (b5 p1 n1 w1 i1 (by omega)).1
    have g2 := (rb_E_loop hb c5 p2.length p2 (Nat.le_refl _) n2 w2 i2 (by omega)).1
    omega
theorem rb_E_pass {k : Nat} {x1 y1 x2 y2 : Int32} (hb : b → rb_S F T w m) (hF : ∀ i, i < m → F i < n) (hT : ∀ i, i < m → T i < n) (hn : n ≤ 5) (hd : ∀ x, d x ≤ 9)
    (hE : rb_E F T w d m b (rb_I T k) u v x y) (h1 : rb_E F T w d m b (rb_I T k) u k x1 y1) (h2 : rb_E F T w d m b (rb_I T k) k v x2 y2)
    (hf1 : ¬ (1000 : Int32) ≤ x1) (hf2 : x2 < 1000) : ∃ R, x1 + x2 = nI R ∧
    ((x < nI R → rb_E F T w d m b (rb_I T (k + 1)) u v x y) ∧ (¬ x < nI R → ((nI R = x → ((y < y1 + y2 - nI (d k) → rb_E F T w d m b (rb_I T (k + 1)) u v (nI R) (y1 + y2 - nI (d k))) ∧
      (¬ y < y1 + y2 - nI (d k) → rb_E F T w d m b (rb_I T (k + 1)) u v x y))) ∧
      (¬ nI R = x → rb_E F T w d m b (rb_I T (k + 1)) u v (nI R) (y1 + y2 - nI (d k)))))) := by
  obtain ⟨l1, D1, b1, b2, b3, b4, b5⟩ := h1
  obtain ⟨l2, D2, c1, c2, c3, c4, c5⟩ := h2
  have hl1 : l1 < 1000 := by
    rw [b1] at hf1
    have hf1 : ¬ nI 1000 ≤ nI l1 := hf1
    rw [nI_leI (by omega) (by omega)] at hf1
    omega
  have hl2 : l2 < 1000 := by
    rw [c1] at hf2
    have hf2 : nI l2 < nI 1000 := hf2
    rwa [nI_ltI (by omega) (by omega)] at hf2
  obtain ⟨q1, q1n, q1w, q1r, q1d⟩ := b4 hl1
  obtain ⟨q2, q2n, q2w, q2r, q2d⟩ := c4 hl2
  refine ⟨l1 + l2, by rw [b1, c1, nI_add], ?_⟩
  refine rb_offer hE (l1 + l2) (D1 + D2 - d k) _ (by omega) ?_ ?_ ?_
  · intro hb'
    have g1 := q1d hb'
    have g2 := q2d hb'
    have g3 := rb_dl2 hF hT hn hd (hb hb') q1n q1w (by omega)
    have g4 := rb_dl2 hF hT hn hd (hb hb') q2n q2w (by omega)
    refine ⟨?_, by omega⟩
    rw [(b3 hb').1, (c3 hb').1, nI_add, pk_sub (by omega)]
  · intro _
    refine ⟨q1 ++ q2, by simp [q1n], (rb_W_app q1 q2 u v).mpr ⟨k, q1w, q2w⟩, by rw [rb_r_app]; omega, fun hb' => ?_⟩
    have g1 := q1d hb'
    have g2 := q2d hb'
    rw [rb_r_app]
    omega
  · intro q hq hw hI hr
    rcases rb_I_split q u v hw hI with h | ⟨p1, p2, e, n1, n2, w1, w2, i1, i2⟩
    · exact Or.inl h
    · right
      have e1 : rb_r w q = rb_r w p1 + rb_r w p2 := by rw [e, rb_r_app]
      have e2 : rb_r (fun i => d (T i)) q = rb_r (fun i => d (T i)) p1 + rb_r (fun i => d (T i)) p2 := by rw [e, rb_r_app]
      obtain ⟨g1, g1'⟩ := b5 p1 n1 w1 i1 (by omega)
      obtain ⟨g2, g2'⟩ := rb_E_loop hb c5 p2.length p2 (Nat.le_refl _) n2 w2 i2 (by omega)
      refine ⟨by omega, fun hb' e' => ?_⟩
      have k1 := g1' hb' (by omega)
      have k2 := g2' hb' (by omega)
      omega
/-- one wire -/
def rb_Cw (j : Nat) (q : List Nat) : Prop := ∃ i, i < j ∧ q = [i]
theorem rb_E_wire {j : Nat} (hj : j < m) (hw3 : w j < 1000) (hd : ∀ x, d x ≤ 9) (hE : rb_E F T w d m b (rb_Cw j) (F j) (T j) x y) :
    ((x < nI (w j) → rb_E F T w d m b (rb_Cw (j + 1)) (F j) (T j) x y) ∧ (¬ x < nI (w j) → ((nI (w j) = x → ((y < nI (d (F j)) + nI (d (T j)) → rb_E F T w d m b (rb_Cw (j + 1)) (F j) (T j) (nI (w j)) (nI (d (F j)) + nI (d (T j)))) ∧
      (¬ y < nI (d (F j)) + nI (d (T j)) → rb_E F T w d m b (rb_Cw (j + 1)) (F j) (T j) x y))) ∧
      (¬ nI (w j) = x → rb_E F T w d m b (rb_Cw (j + 1)) (F j) (T j) (nI (w j)) (nI (d (F j)) + nI (d (T j))))))) := by
  have g1 := hd (F j)
  have g2 := hd (T j)
  refine rb_offer hE (w j) (d (F j) + d (T j)) _ (by omega) ?_ ?_ ?_
  · intro _
    exact ⟨nI_add _ _, by omega⟩
  · intro _
    exact ⟨[j], by simp, rb_W_one hj, by simp [rb_r], fun _ => by simp [rb_r]⟩
  · intro q hq hw ⟨i, hi, e⟩ hr
    by_cases h : i = j
    · right
      subst h
      subst e
      simp [rb_r]
    · exact Or.inl ⟨i, by omega, e⟩
theorem rb_E_wire' {j : Nat} (hne : u ≠ F j ∨ v ≠ T j) (hE : rb_E F T w d m b (rb_Cw j) u v x y) : rb_E F T w d m b (rb_Cw (j + 1)) u v x y := by
  refine rb_E_mono ?_ hE
  intro q _ hw ⟨i, hi, e⟩
  subst e
  by_cases h : i = j
  · subst h
    have h1 : F i = u := hw.2.1
    have h2 : T i = v := hw.2.2
    rcases hne with h | h
    · exact absurd h1.symm h
    · exact absurd h2.symm h
  · exact ⟨i, by omega, rfl⟩
theorem rb_E_0 : rb_E F T w d m b (rb_Cw 0) u v 1000 0 :=
  ⟨1000, 0, rfl, by omega, fun _ => ⟨rfl, by omega⟩, fun h => by omega, fun q _ _ ⟨i, hi, _⟩ => by omega⟩
theorem rb_E_s (hE : rb_E F T w d m b (rb_Cw m) u v x y) : rb_E F T w d m b (rb_I T 0) u v x y := by
  refine rb_E_mono ?_ hE
  intro q hq hw hI
  cases q with
  | nil => exact absurd rfl hq
  | cons i q =>
    cases q with
    | nil => exact ⟨i, hw.1, rfl⟩
    | cons j q => exact absurd (hI i (by simp [List.dropLast])) (by omega)
/-- measured -/
def rb_Me (F T w d : Nat → Nat) (m : Nat) (al ao : Nat → Int32) : Prop :=
  ∀ u v, u < 5 → v < 5 → rb_E F T w d m (rb_S F T w m) (fun _ => True) u v (al (5 * u + v)) (ao (5 * u + v))
theorem rb_E_all (hT : ∀ i, i < m → T i < n) (hE : rb_E F T w d m b (rb_I T n) u v x y) : rb_E F T w d m b (fun _ => True) u v x y :=
  rb_E_mono (fun _ _ hw _ => rb_I_all hT hw) hE
end
end
section
/-! the component's measure -/
def rb_A (f : Nat → Nat) : Nat → Int32 := fun i => nI (f i)
def rb_C (F T d : Nat → Nat) (m n : Nat) : Prop := 1 ≤ n ∧ n ≤ 5 ∧ m ≤ 12 ∧ (∀ i, i < m → F i < n) ∧ (∀ i, i < m → T i < n) ∧ ∀ x, d x ≤ 9
theorem rb_X_offer {post : SX → Prop} {bc wc kn so : Int32} {de fb tb he le lo la : Nat → Int32} {u v : Nat} (hu : u < 5) (hv : v < 5) {p2 p3 : Int32} {Q : Int32 → Int32 → Prop}
    (hQ : (le (5 * u + v) < p2 → Q (le (5 * u + v)) (lo (5 * u + v))) ∧ (¬ le (5 * u + v) < p2 → ((p2 = le (5 * u + v) → ((lo (5 * u + v) < p3 → Q p2 p3) ∧
      (¬ lo (5 * u + v) < p3 → Q (le (5 * u + v)) (lo (5 * u + v))))) ∧ (¬ p2 = le (5 * u + v) → Q p2 p3))))
    (h : ∀ le' lo' : Nat → Int32, (∀ c, c ≠ 5 * u + v → le' c = le c ∧ lo' c = lo c) → Q (le' (5 * u + v)) (lo' (5 * u + v)) → post (bc, wc, kn, so, de, fb, tb, he, le', lo', la)) :
    wpX_offer post (bc, wc, kn, so, de, fb, tb, he, le, lo, la) (nI u) (nI v) p2 p3 := by
  intro x5 e5
  have e5 : x5 = nI (5 * u + v) := by rw [e5]; show nI 5 * nI u + nI v = _; rw [pk_mul, nI_add]
  subst e5
  have hin : vp_in (nI (5 * u + v)) 25 := vp_in_nI (by omega) (by omega)
  have hcl : (nI (5 * u + v)).toNatClampNeg = 5 * u + v := nI_clamp (by omega)
  have hset : Q p2 p3 → wX_offer_42 post p2 p3 (nI (5 * u + v)) bc wc kn so de fb tb he le lo la := by
    intro hq
    unfold wX_offer_42
    rw [hcl]
    refine ⟨hin, fun y ey => ⟨hin, fun z ez => ?_⟩⟩
    subst ey; subst ez
    refine h _ _ (fun c hc => ⟨pk_un hc, pk_un hc⟩) ?_
    rw [pk_us, pk_us]; exact hq
  rw [hcl]
  refine ⟨hin, br_c (fun h1 => h le lo (fun _ _ => ⟨rfl, rfl⟩) (hQ.1 h1)) (fun h1 => ⟨hin, br_c (fun h2 => ⟨hin, br_c (fun h3 => ?_) (fun h3 => ?_)⟩) (fun h2 => ?_)⟩)⟩
  · exact hset (((hQ.2 h1).1 h2).1 h3)
  · exact h le lo (fun _ _ => ⟨rfl, rfl⟩) (((hQ.2 h1).1 h2).2 h3)
  · exact hset ((hQ.2 h1).2 h2)
section
variable {F T w d : Nat → Nat} {m n : Nat} {bc wc kn so : Int32} {fb tb he la : Nat → Int32} {b : Prop}
/-- the couples before c have passed the middle block k -/
def rb_Pa (F T w d : Nat → Nat) (m : Nat) (b : Prop) (k c : Nat) (le lo : Nat → Int32) : Prop :=
  (∀ u v, u < 5 → v < 5 → rb_E F T w d m b (rb_I T k) u v (le (5 * u + v)) (lo (5 * u + v))) ∧
  ∀ u v, u < 5 → v < 5 → 5 * u + v < c → rb_E F T w d m b (rb_I T (k + 1)) u v (le (5 * u + v)) (lo (5 * u + v))
theorem rb_Pa_step {k c : Nat} {le lo le' lo' : Nat → Int32} (hP : rb_Pa F T w d m b k c le lo) (hs : ∀ x, x ≠ 5 * (c / 5) + c % 5 → le' x = le x ∧ lo' x = lo x)
    (hE : rb_E F T w d m b (rb_I T (k + 1)) (c / 5) (c % 5) (le' (5 * (c / 5) + c % 5)) (lo' (5 * (c / 5) + c % 5))) : rb_Pa F T w d m b k (c + 1) le' lo' := by
  refine ⟨fun u v hu hv => ?_, fun u v hu hv hc => ?_⟩
  · by_cases e : 5 * u + v = 5 * (c / 5) + c % 5
    · have e1 : u = c / 5 := by omega
      have e2 : v = c % 5 := by omega
      subst e1; subst e2
      exact rb_E_mono (fun q _ _ hq => rb_I_mono (by omega) hq) hE
    · rw [(hs _ e).1, (hs _ e).2]; exact hP.1 u v hu hv
  · by_cases e : 5 * u + v = 5 * (c / 5) + c % 5
    · have e1 : u = c / 5 := by omega
      have e2 : v = c % 5 := by omega
      subst e1; subst e2
      exact hE
    · rw [(hs _ e).1, (hs _ e).2]; exact hP.2 u v hu hv (by omega)
theorem rb_X_110 {post : SX → Prop} {J : Int32 → Int32 → Int32 → Int32 → Int32 → (Nat → Int32) → (Nat → Int32) → (Nat → Int32) → (Nat → Int32) → (Nat → Int32) → (Nat → Int32) → (Nat → Int32) → Prop}
    (hC : rb_C F T d m n) (hb : b → rb_S F T w m) {k : Nat} (hk : k < n) :
    ∀ (N c : Nat) (le lo : Nat → Int32), 25 - c < N → c ≤ 25 → rb_Pa F T w d m b k c le lo →
    (∀ le' lo' : Nat → Int32, rb_Pa F T w d m b k 25 le' lo' → J (nI (k + 1)) bc wc kn so (rb_A d) fb tb he le' lo' la) →
    wX_measure_110 post J (nI k) N (nI c) bc wc kn so (rb_A d) fb tb he le lo la := by
  obtain ⟨_, hn5, _, hF, hT, hd⟩ := hC
  intro N
  induction N with
  | zero => intro c le lo hN; omega
  | succ N ih =>
    intro c le lo hN hc hP hJ
    by_cases h25 : c = 25
    · subst h25
      refine br_t (nI_le (a := 25) (by omega) (by omega)) ?_
      intro x e
      rw [nI_1] at e
      subst e
      exact hJ le lo hP
    · have c25 : c < 25 := by omega
      refine br_f (nI_ge (b := 25) (by omega) (by omega)) ?_
      refine ⟨by decide, ?_⟩
      intro x3 e3
      have g3 : x3 = nI (c / 5) := by rw [e3]; exact pk_div (d := 5) (by omega) (by omega) (by omega)
      refine ⟨by decide, ?_⟩
      intro x4 e4
      have g4 : x4 = nI (c % 5) := by rw [e4]; exact pk_rem (d := 5) (by omega) (by omega) (by omega)
      intro x5 e5
      have g5 : x5 = nI (5 * (c / 5) + k) := by rw [e5, g3]; show nI 5 * nI _ + nI k = _; rw [pk_mul, nI_add]
      intro x6 e6
      have g6 : x6 = nI (5 * k + c % 5) := by rw [e6, g4]; show nI 5 * nI _ + nI _ = _; rw [pk_mul, nI_add]
      clear e3 e4 e5 e6
      subst g3; subst g4; subst g5; subst g6
      have hu : c / 5 < 5 := by omega
      have hv : c % 5 < 5 := by omega
      have hk5 : k < 5 := by omega
      have i1 : vp_in (nI (5 * (c / 5) + k)) 25 := vp_in_nI (by omega) (by omega)
      have i2 : vp_in (nI (5 * k + c % 5)) 25 := vp_in_nI (by omega) (by omega)
      have i3 : vp_in (nI k) 5 := vp_in_nI (by omega) (by omega)
      rw [nI_clamp (n := 5 * (c / 5) + k) (by omega), nI_clamp (n := 5 * k + c % 5) (by omega), nI_clamp (n := k) (by omega)]
      have hE0 := hP.1 (c / 5) (c % 5) hu hv
      have hE1 := hP.1 (c / 5) k hu hk5
      have hE2 := hP.1 k (c % 5) hk5 hv
      have hskip : ((1000 : Int32) ≤ le (5 * (c / 5) + k) ∨ ¬ le (5 * k + c % 5) < 1000) → ∀ x, x = nI c + 1 → wX_measure_110 post J (nI k) N x bc wc kn so (rb_A d) fb tb he le lo la := by
        intro hf x ex
        rw [nI_1] at ex
        subst ex
        exact ih (c + 1) le lo (by omega) (by omega) (rb_Pa_step hP (fun _ _ => ⟨rfl, rfl⟩) (rb_E_skip hb hE0 hE1 hE2 hf)) hJ
      refine ⟨i1, br_c (fun h1 => hskip (Or.inl h1)) (fun h1 => ⟨i2, br_c (fun h2 => ⟨i1, i2, i1, i2, i3, ?_⟩) (fun h2 => hskip (Or.inr h2))⟩)⟩
      obtain ⟨R, eR, hQ⟩ := rb_E_pass hb hF hT hn5 hd hE0 hE1 hE2 h1 h2
      refine rb_X_offer (Q := rb_E F T w d m b (rb_I T (k + 1)) (c / 5) (c % 5)) hu hv (by rw [eR]; exact hQ) ?_
      intro le' lo' hs hE x ex
      rw [nI_1] at ex
      subst ex
      exact ih (c + 1) le' lo' (by omega) (by omega) (rb_Pa_step hP hs hE) hJ
theorem rb_X_100 {post : SX → Prop} (hC : rb_C F T d m n) (hb : b → rb_S F T w m) :
    ∀ (N k : Nat) (le lo : Nat → Int32), n - k < N → k ≤ n →
    (∀ u v, u < 5 → v < 5 → rb_E F T w d m b (rb_I T k) u v (le (5 * u + v)) (lo (5 * u + v))) →
    (∀ le' lo' : Nat → Int32, (∀ u v, u < 5 → v < 5 → rb_E F T w d m b (rb_I T n) u v (le' (5 * u + v)) (lo' (5 * u + v))) →
      ∃ N', wX_measure_232 post (nI n) wc kn (rb_A d) fb tb he le' lo' la N' 0 1) →
    wX_measure_100 post N (nI k) (nI n) wc kn so (rb_A d) fb tb he le lo la := by
  intro N
  have hn5 := hC.2.1
  induction N with
  | zero => intro k le lo hN; omega
  | succ N ih =>
    intro k le lo hN hk hE hJ
    by_cases h : k = n
    · subst h
      exact br_t (nI_le (by omega) (by omega)) (hJ le lo hE)
    · refine br_f (nI_ge (by omega) (by omega)) ⟨26, ?_⟩
      refine rb_X_110 hC hb (by omega) 26 0 le lo (by omega) (by omega) ⟨hE, fun u v _ _ h => by omega⟩ ?_
      intro le' lo' hP
      exact ih (k + 1) le' lo' (by omega) (by omega) (fun u v hu hv => hP.2 u v hu hv (by omega)) hJ
theorem rb_X_232 {post : SX → Prop} (hn5 : n ≤ 5) {le lo : Nat → Int32}
    (hp : ∀ so', ((so' = 1 ∧ ∀ x, x < n → ¬ le (6 * x) = 0) ∨ (so' = 0 ∧ ∃ x, x < n ∧ le (6 * x) = 0)) → post (nI n, wc, kn, so', rb_A d, fb, tb, he, le, lo, la)) :
    ∀ (N v : Nat) (so : Int32), n - v < N → v ≤ n → ((so = 1 ∧ ∀ x, x < v → ¬ le (6 * x) = 0) ∨ (so = 0 ∧ ∃ x, x < n ∧ le (6 * x) = 0)) →
    wX_measure_232 post (nI n) wc kn (rb_A d) fb tb he le lo la N (nI v) so := by
  intro N
  induction N with
  | zero => intro v so hN; omega
  | succ N ih =>
    intro v so hN hv hI
    by_cases h : v = n
    · subst h
      exact br_t (nI_le (by omega) (by omega)) (hp so hI)
    · have e6 : 6 * nI v = nI (6 * v) := pk_mul 6 v
      refine br_f (nI_ge (by omega) (by omega)) ?_
      rw [e6, nI_clamp (n := 6 * v) (by omega)]
      refine ⟨vp_in_nI (by omega) (by omega), br_c (fun h1 => ?_) (fun h1 => ?_)⟩
      · intro x ex
        rw [nI_1] at ex
        subst ex
        exact ih (v + 1) 0 (by omega) (by omega) (Or.inr ⟨rfl, v, by omega, h1⟩)
      · intro x ex
        rw [nI_1] at ex
        subst ex
        refine ih (v + 1) so (by omega) (by omega) ?_
        rcases hI with ⟨e, hI⟩ | hI
        · refine Or.inl ⟨e, fun x hx => ?_⟩
          by_cases e' : x = v
          · rw [e']; exact h1
          · exact hI x (by omega)
        · exact Or.inr hI
theorem rb_X_45 {post : SX → Prop} (hC : rb_C F T d m n) (hcap : ∀ i, i < m → w i < 1000) :
    ∀ (N j : Nat) (le lo : Nat → Int32), m - j < N → j ≤ m →
    (∀ u v, u < 5 → v < 5 → rb_E F T w d m b (rb_Cw j) u v (le (5 * u + v)) (lo (5 * u + v))) →
    (∀ le' lo' : Nat → Int32, (∀ u v, u < 5 → v < 5 → rb_E F T w d m b (rb_I T 0) u v (le' (5 * u + v)) (lo' (5 * u + v))) →
      ∃ N', wX_measure_100 post N' 0 bc (nI m) kn so (rb_A d) (rb_A F) (rb_A T) (rb_A w) le' lo' la) →
    wX_measure_45 post N (nI j) bc (nI m) kn so (rb_A d) (rb_A F) (rb_A T) (rb_A w) le lo la := by
  obtain ⟨_, hn5, hm12, hF, hT, hd⟩ := hC
  intro N
  induction N with
  | zero => intro j le lo hN; omega
  | succ N ih =>
    intro j le lo hN hj hE hJ
    by_cases h : j = m
    · subst h
      exact br_t (nI_le (by omega) (by omega)) (hJ le lo (fun u v hu hv => rb_E_s (hE u v hu hv)))
    · have hjm : j < m := by omega
      have f5 : F j < 5 := Nat.lt_of_lt_of_le (hF j hjm) hn5
      have t5 : T j < 5 := Nat.lt_of_lt_of_le (hT j hjm) hn5
      refine br_f (nI_ge (by omega) (by omega)) ?_
      rw [nI_clamp (n := j) (by omega)]
      have ij : vp_in (nI j) 12 := vp_in_nI (by omega) (by omega)
      refine ⟨ij, ?_⟩
      intro x2 e2
      have e2 : x2 = nI (F j) := e2
      refine ⟨ij, ?_⟩
      intro x3 e3
      have e3 : x3 = nI (T j) := e3
      subst e2; subst e3
      rw [nI_clamp (n := F j) (by omega), nI_clamp (n := T j) (by omega)]
      refine ⟨ij, vp_in_nI f5 (by omega), vp_in_nI t5 (by omega), ?_⟩
      refine rb_X_offer (Q := rb_E F T w d m b (rb_Cw (j + 1)) (F j) (T j)) f5 t5 (rb_E_wire hjm (hcap j hjm) hd (hE (F j) (T j) f5 t5)) ?_
      intro le' lo' hs hE' x ex
      rw [nI_1] at ex
      subst ex
      refine ih (j + 1) le' lo' (by omega) (by omega) (fun u v hu hv => ?_) hJ
      by_cases e : 5 * u + v = 5 * F j + T j
      · have e1 : u = F j := by omega
        have e2 : v = T j := by omega
        rw [e1, e2]; exact hE'
      · rw [(hs _ e).1, (hs _ e).2]
        refine rb_E_wire' ?_ (hE u v hu hv)
        by_cases e1 : u = F j
        · exact Or.inr (by omega)
        · exact Or.inl e1
theorem rb_X_15 {post : SX → Prop} {de : Nat → Int32}
    (hJ : ∀ le' lo' : Nat → Int32, (∀ c, c < 25 → le' c = 1000 ∧ lo' c = 0) → ∃ N', wX_measure_45 post N' 0 bc wc kn so de fb tb he le' lo' la) :
    ∀ (N c : Nat) (le lo : Nat → Int32), 25 - c < N → c ≤ 25 → (∀ x, x < c → le x = 1000 ∧ lo x = 0) →
    wX_measure_15 post bc wc kn so N (nI c) de fb tb he le lo la := by
  intro N
  induction N with
  | zero => intro j le lo hN; omega
  | succ N ih =>
    intro c le lo hN hc hI
    by_cases h : c = 25
    · subst h
      exact br_t (nI_le (a := 25) (by omega) (by omega)) (hJ le lo hI)
    · refine br_f (nI_ge (b := 25) (by omega) (by omega)) ?_
      have ic : vp_in (nI c) 25 := vp_in_nI (by omega) (by omega)
      rw [nI_clamp (n := c) (by omega)]
      refine ⟨ic, fun y ey => ⟨ic, fun z ez x ex => ?_⟩⟩
      rw [nI_1] at ex
      subst ex; subst ey; subst ez
      refine ih (c + 1) _ _ (by omega) (by omega) (fun x hx => ?_)
      by_cases e : x = c
      · rw [e, pk_us, pk_us]; exact ⟨rfl, rfl⟩
      · rw [pk_un e, pk_un e]; exact hI x (by omega)
/-- isSound tells -/
def rb_sf (F T w : Nat → Nat) (m : Nat) (so : Int32) : Prop := (so = 1 ∧ rb_S F T w m) ∨ (so = 0 ∧ ¬ rb_S F T w m)
theorem rb_sf_of (hC : rb_C F T d m n) {le lo : Nat → Int32} (hM : rb_Me F T w d m le lo)
    (h : (so = 1 ∧ ∀ x, x < n → ¬ le (6 * x) = 0) ∨ (so = 0 ∧ ∃ x, x < n ∧ le (6 * x) = 0)) : rb_sf F T w m so := by
  obtain ⟨_, hn5, hm12, hF, hT, hd⟩ := hC
  rcases h with ⟨e, h⟩ | ⟨e, x, hx, h⟩
  · refine Or.inl ⟨e, fun x p hp hw => ?_⟩
    have hx := rb_W_start hF hp hw
    rcases Nat.eq_zero_or_pos (rb_r w p) with h0 | h0
    · exfalso
      apply h x hx
      obtain ⟨l, D, h1, _, _, _, h5⟩ := hM x x (by omega) (by omega)
      have := (h5 p hp hw trivial (by omega)).1
      have e0 : l = 0 := by omega
      rw [show 6 * x = 5 * x + x by omega, h1, e0]
      rfl
    · exact h0
  · refine Or.inr ⟨e, fun hS => ?_⟩
    obtain ⟨l, D, h1, h2, _, h4, _⟩ := hM x x (by omega) (by omega)
    rw [show 5 * x + x = 6 * x by omega, h] at h1
    have e0 : l = 0 := by
      have h1 : nI 0 = nI l := h1
      rw [nI_eq (by omega) (by omega)] at h1
      omega
    obtain ⟨q, hq, hw, hr, _⟩ := h4 (by omega)
    have := hS x q hq hw
    omega
/-- measure: the couples' entries and isSound are true of the circuit behind it -/
theorem rb_X_measure {post : SX → Prop} (hC : rb_C F T d m n) (hcap : ∀ i, i < m → w i < 1000) {le lo : Nat → Int32}
    (hK : ¬ kn = 0 → kn = 1 ∧ rb_Me F T w d m le lo ∧ rb_sf F T w m so)
    (h : ∀ so' le' lo', rb_Me F T w d m le' lo' → rb_sf F T w m so' → post (nI n, nI m, 1, so', rb_A d, rb_A F, rb_A T, rb_A w, le', lo', la)) :
    wpX_measure post (nI n, nI m, kn, so, rb_A d, rb_A F, rb_A T, rb_A w, le, lo, la) := by
  refine br_c (fun _ => ?_) (fun hk => ?_)
  · refine ⟨26, rb_X_15 ?_ 26 0 le lo (by omega) (by omega) (fun x hx => by omega)⟩
    intro le1 lo1 h1
    refine ⟨m + 1, rb_X_45 (b := rb_S F T w m) hC hcap (m + 1) 0 le1 lo1 (by omega) (by omega) (fun u v hu hv => ?_) ?_⟩
    · rw [(h1 (5 * u + v) (by omega)).1, (h1 (5 * u + v) (by omega)).2]; exact rb_E_0
    · intro le2 lo2 h2
      refine ⟨n + 1, rb_X_100 (b := rb_S F T w m) hC (fun h => h) (n + 1) 0 le2 lo2 (by omega) (by omega) h2 ?_⟩
      intro le3 lo3 h3
      have hM : rb_Me F T w d m le3 lo3 := fun u v hu hv => rb_E_all hC.2.2.2.2.1 (h3 u v hu hv)
      exact ⟨n + 1, rb_X_232 hC.2.1 (fun so' hs => h so' le3 lo3 hM (rb_sf_of hC hM hs)) (n + 1) 0 1 (by omega) (by omega) (Or.inl ⟨rfl, fun x hx => by omega⟩)⟩
  · obtain ⟨e, hM, hs⟩ := hK hk
    subst e
    exact h so le lo hM hs
end
end
section
/-! rounds of lowering: constraints (u, v, c) say t v + 1 <= t u + c -/
def rb_Sat (K : Nat → Nat → Nat → Prop) (t : Nat → Nat) : Prop := ∀ u v c, K u v c → t v + 1 ≤ t u + c
def rb_Ls (K : Nat → Nat → Nat → Prop) (s : Nat → Nat) : Prop := rb_Sat K s ∧ ∀ s', rb_Sat K s' → ∀ x, s x ≤ s' x
/-- within a round that began with t0: Dn is done -/
def rb_Ro (K Dn : Nat → Nat → Nat → Prop) (t0 t : Nat → Nat) (low : Int32) : Prop :=
  (∀ x, t0 x ≤ t x) ∧ (∀ s, rb_Sat K s → (∀ x, t0 x ≤ s x) → ∀ x, t x ≤ s x) ∧ (∀ u v c, Dn u v c → t0 v + 1 ≤ t u + c) ∧ (low = 0 → ∀ x, t x = t0 x) ∧
  (¬ low = 0 → ∃ x, t0 x < t x)
def rb_one (t s : Nat → Nat) (x : Nat) : Nat := if t x = s x then 1 else 0
/-- after r rounds -/
def rb_HI (K : Nat → Nat → Nat → Prop) (n r : Nat) (t : Nat → Nat) : Prop :=
  (∀ s, rb_Sat K s → ∀ x, t x ≤ s x) ∧ ∀ s, rb_Ls K s → (∀ x, x < n → t x = s x) ∨ r + 1 ≤ rb_sum (rb_one t s) n
section
variable {K Dn Dn' : Nat → Nat → Nat → Prop} {t0 t s : Nat → Nat} {low : Int32} {n r u v c : Nat}
theorem rb_Ro_keep (h : rb_Ro K Dn t0 t low) (hD : ∀ a b e, Dn' a b e → Dn a b e ∨ (a = u ∧ b = v ∧ e = c)) (hc : t v + 1 ≤ t u + c) : rb_Ro K Dn' t0 t low := by
  obtain ⟨h1, h2, h3, h4, h5⟩ := h
  refine ⟨h1, h2, fun a b e hd => ?_, h4, h5⟩
  rcases hD a b e hd with hd | ⟨rfl, rfl, rfl⟩
  · exact h3 a b e hd
  · have := h1 b; omega
theorem rb_Ro_skip (h : rb_Ro K Dn t0 t low) (hD : ∀ a b e, Dn' a b e → Dn a b e) : rb_Ro K Dn' t0 t low := by
  obtain ⟨h1, h2, h3, h4, h5⟩ := h
  exact ⟨h1, h2, fun a b e hd => h3 a b e (hD a b e hd), h4, h5⟩
theorem rb_Ro_low (h : rb_Ro K Dn t0 t low) (hD : ∀ a b e, Dn' a b e → Dn a b e ∨ (a = u ∧ b = v ∧ e = c)) (hK : K u v c) (hc : ¬ t v + 1 ≤ t u + c) :
    rb_Ro K Dn' t0 (fun x => if x = u then t v + 1 - c else t x) 1 := by
  obtain ⟨h1, h2, h3, h4, h5⟩ := h
  have hup : ∀ x, t x ≤ (if x = u then t v + 1 - c else t x) := by
    intro x
    by_cases e : x = u
    · rw [if_pos e, e]; omega
    · rw [if_neg e]; exact Nat.le_refl _
  refine ⟨fun x => Nat.le_trans (h1 x) (hup x), fun s hs h0 x => ?_, fun a b e hd => ?_, fun z => absurd z (by decide), fun _ => ⟨u, ?_⟩⟩
  · show (if x = u then t v + 1 - c else t x) ≤ s x
    by_cases e : x = u
    · rw [if_pos e, e]
      have := hs u v c hK
      have := h2 s hs h0 v
      omega
    · rw [if_neg e]; exact h2 s hs h0 x
  · show t0 b + 1 ≤ (if a = u then t v + 1 - c else t a) + e
    rcases hD a b e hd with hd | ⟨rfl, rfl, rfl⟩
    · have := h3 a b e hd
      have := hup a
      omega
    · rw [if_pos rfl]
      have := h1 b
      omega
  · show t0 u < (if u = u then t v + 1 - c else t u)
    rw [if_pos rfl]
    have := h1 u
    omega
theorem rb_tight (hs : rb_Ls K s) (P : Nat → Prop) {x0 : Nat} (hx0 : P x0) (h1 : ∀ x, P x → 1 ≤ s x) : ∃ u v c, K u v c ∧ P u ∧ ¬ P v ∧ s v + 1 = s u + c := by
  refine Classical.byContradiction fun hno => ?_
  have hdec : ∃ s' : Nat → Nat, (∀ x, P x → s' x + 1 = s x) ∧ ∀ x, ¬ P x → s' x = s x := by
    refine ⟨fun x => @ite Nat (P x) (Classical.propDecidable _) (s x - 1) (s x), fun x hx => ?_, fun x hx => ?_⟩
    · show (@ite Nat (P x) (Classical.propDecidable _) (s x - 1) (s x)) + 1 = s x
      rw [if_pos hx]
      have := h1 x hx
      omega
    · exact if_neg hx
  obtain ⟨s', e1, e2⟩ := hdec
  have hsat : rb_Sat K s' := by
    intro u v c hK
    have h := hs.1 u v c hK
    by_cases hu : P u
    · have := e1 u hu
      by_cases hv : P v
      · have := e1 v hv
        omega
      · have := e2 v hv
        rcases Nat.lt_or_ge (s v + 1) (s u + c) with h' | h'
        · omega
        · exact absurd ⟨u, v, c, hK, hu, hv, by omega⟩ hno
    · have := e2 u hu
      by_cases hv : P v
      · have := e1 v hv
        omega
      · have := e2 v hv
        omega
  have := hs.2 s' hsat x0
  have := e1 x0 hx0
  omega
theorem rb_sum_lt {a b : Nat → Nat} (h : ∀ x, x < n → a x ≤ b x) {x0 : Nat} (hx0 : x0 < n) (h0 : a x0 < b x0) : rb_sum a n < rb_sum b n := by
  rcases Nat.lt_or_ge (rb_sum a n) (rb_sum b n) with h1 | h1
  · exact h1
  · have := rb_sum_eq n h h1 x0 hx0
    omega
theorem rb_sum_one : ∀ n, rb_sum (fun _ => 1) n = n := by
  intro n
  induction n with
  | zero => rfl
  | succ n ih => simp only [rb_sum, ih]
theorem rb_one_le (x : Nat) : rb_one t s x ≤ 1 := by unfold rb_one; split <;> omega
theorem rb_one_all (h : n ≤ rb_sum (rb_one t s) n) : ∀ x, x < n → t x = s x := by
  intro x hx
  have := rb_sum_eq (a := rb_one t s) (b := fun _ => 1) n (fun x _ => rb_one_le x) (by rw [rb_sum_one]; exact h) x hx
  have h1 : 1 ≤ rb_one t s x := this
  unfold rb_one at h1
  by_cases e : t x = s x
  · exact e
  · rw [if_neg e] at h1; omega
theorem rb_HI_0 (hKn : ∀ u v c, K u v c → u < n ∧ v < n) : rb_HI K n 0 (fun _ => 0) := by
  refine ⟨fun _ _ _ => Nat.zero_le _, fun s hs => ?_⟩
  by_cases h : ∀ x, x < n → 0 = s x
  · exact Or.inl h
  · right
    have hex : ∃ x, x < n ∧ 1 ≤ s x := by
      refine Classical.byContradiction fun hno => h fun x hx => ?_
      rcases Nat.eq_zero_or_pos (s x) with h0 | h0
      · exact h0.symm
      · exact absurd ⟨x, hx, h0⟩ hno
    obtain ⟨x0, hx0, h0⟩ := hex
    obtain ⟨u, v, c, hK, hu, hv, _⟩ := rb_tight hs (fun x => 1 ≤ s x) h0 (fun _ h => h)
    have hv : s v = 0 := by omega
    have hvn := (hKn u v c hK).2
    have := rb_sum_lt (a := fun _ => 0) (b := rb_one (fun _ => 0) s) (n := n) (fun _ _ => Nat.zero_le _) hvn (by show 0 < rb_one (fun _ => 0) s v; unfold rb_one; rw [if_pos hv.symm]; omega)
    omega
theorem rb_HI_step (hKn : ∀ u v c, K u v c → u < n ∧ v < n) (hI : rb_HI K n r t0) (hR : rb_Ro K K t0 t low) : rb_HI K n (r + 1) t := by
  obtain ⟨h1, h2, h3, h4, h5⟩ := hR
  refine ⟨fun s hs => h2 s hs (hI.1 s hs), fun s hs => ?_⟩
  have hle := h2 s hs.1 (hI.1 s hs.1)
  have hkeep : ∀ x, t0 x = s x → t x = s x := by
    intro x e
    have := hle x
    have := h1 x
    omega
  by_cases hall : ∀ x, x < n → t0 x = s x
  · exact Or.inl fun x hx => hkeep x (hall x hx)
  · right
    rcases hI.2 s hs with h | h
    · exact absurd h hall
    · have hex : ∃ x, x < n ∧ t0 x < s x := by
        refine Classical.byContradiction fun hno => hall fun x hx => ?_
        have h0 := hI.1 s hs.1 x
        rcases Nat.lt_or_ge (t0 x) (s x) with h' | h'
        · exact absurd ⟨x, hx, h'⟩ hno
        · omega
      obtain ⟨x0, hx0, h0⟩ := hex
      obtain ⟨u, v, c, hK, hu, hv, hc⟩ := rb_tight hs (fun x => t0 x < s x) h0 (fun x h => by omega)
      have hun := (hKn u v c hK).1
      have e1 := h3 u v c hK
      have e2 := hI.1 s hs.1 v
      have e3 := hle u
      have hlt := rb_sum_lt (a := rb_one t0 s) (b := rb_one t s) (n := n) (fun x _ => by
        unfold rb_one
        by_cases e : t0 x = s x
        · rw [if_pos e, if_pos (hkeep x e)]; exact Nat.le_refl _
        · rw [if_neg e]; exact Nat.zero_le _) hun (by
        unfold rb_one
        rw [if_neg (by omega), if_pos (by omega)]; omega)
      omega
/-- a sixth round that lowers: no solution -/
theorem rb_HI_end (hn : n ≤ 5) (hs0 : ∀ x, n ≤ x → s x = 0) (hI : rb_HI K n 5 t0) (hR : rb_Ro K K t0 t low) (hl : ¬ low = 0) (hs : rb_Ls K s) : False := by
  obtain ⟨h1, h2, h3, h4, h5⟩ := hR
  have hall : ∀ x, x < n → t0 x = s x := by
    rcases hI.2 s hs with h | h
    · exact h
    · exact rb_one_all (by omega)
  obtain ⟨x, hx⟩ := h5 hl
  have := h2 s hs.1 (hI.1 s hs.1) x
  by_cases hxn : x < n
  · have := hall x hxn
    omega
  · have := hs0 x (by omega)
    omega
theorem rb_HI_done (hI : rb_HI K n r t0) (hR : rb_Ro K K t0 t low) (hl : low = 0) : rb_Ls K t := by
  obtain ⟨h1, h2, h3, h4, h5⟩ := hR
  have e := h4 hl
  refine ⟨fun u v c hK => ?_, fun s hs x => ?_⟩
  · have := h3 u v c hK
    rw [e v]; exact this
  · exact h2 s hs (hI.1 s hs) x
end
section
variable {F T w d : Nat → Nat} {m n : Nat} {le lo : Nat → Int32} {p : Nat}
/-- the greatest delay -/
def rb_gd (d : Nat → Nat) (n g : Nat) : Prop := (∀ x, x < n → d x ≤ g) ∧ ∃ x, x < n ∧ d x = g
def rb_Kw (F T w : Nat → Nat) (j u v e : Nat) : Prop := ∃ i, i < j ∧ F i = u ∧ T i = v ∧ e = w i + 1
def rb_Kc (le lo : Nat → Int32) (P : Int32) (c u v e : Nat) : Prop :=
  u < 5 ∧ v < 5 ∧ 5 * u + v < c ∧ ¬ (1000 : Int32) ≤ le (5 * u + v) ∧ ¬ lo (5 * u + v) ≤ P ∧ le (5 * u + v) = nI e ∧ e < 1000
def rb_K (F T w : Nat → Nat) (m : Nat) (le lo : Nat → Int32) (P : Int32) (u v e : Nat) : Prop := rb_Kw F T w m u v e ∨ rb_Kc le lo P 25 u v e
/-- every way has one below 1000 -/
def rb_cap (F T w : Nat → Nat) (m : Nat) : Prop := (∀ i, i < m → w i < 1000) ∧ ∀ (u v : Nat) (q : List Nat), q ≠ [] → rb_W F T m u v q → ∃ q', q' ≠ [] ∧ rb_W F T m u v q' ∧ rb_r w q' ≤ rb_r w q ∧ rb_r w q' < 1000
theorem rb_Sat_Fe (hC : rb_C F T d m n) (hcap : rb_cap F T w m) (hS : rb_S F T w m) (hM : rb_Me F T w d m le lo) {g : Nat} (hg : rb_gd d n g) (hgp : g ≤ p) (hp : p < 2 ^ 31) {t : Nat → Nat} :
    rb_Sat (rb_K F T w m le lo (nI p)) t ↔ rb_Fe F T w d m n p t := by
  obtain ⟨_, hn5, hm12, hF, hT, hd⟩ := hC
  constructor
  · intro h
    have hl : rb_L F T w m t := by
      intro i hi
      have := h (F i) (T i) (w i + 1) (Or.inl ⟨i, hi, rfl, rfl, rfl⟩)
      omega
    refine ⟨hl, fun u v q hu hq he => ?_⟩
    by_cases hq0 : q = []
    · subst hq0
      have := hg.1 u hu
      simp only [rb_r]
      omega
    · have hv := rb_W_end hT q u v hu hq
      have hmin : ∀ q', rb_W F T m u v q' → rb_r w q ≤ rb_r w q' := by
        intro q' hq'
        have := rb_Lw hl q' u v hq'
        omega
      obtain ⟨q', _, w', _, r'⟩ := hcap.2 u v q hq0 hq
      have hr : rb_r w q < 1000 := Nat.lt_of_le_of_lt (hmin q' w') r'
      obtain ⟨l, D, e1, e2, e3, e4, e5⟩ := hM u v (by omega) (by omega)
      obtain ⟨g1, g2⟩ := e5 q hq0 hq trivial hr
      obtain ⟨q2, _, w2, r2, d2⟩ := e4 (by omega)
      have g3 := hmin q2 w2
      have g4 := g2 hS (by omega)
      refine Classical.byContradiction fun hc => ?_
      have hk := h u v l (Or.inr ⟨by omega, by omega, by omega, ?_, ?_, e1, by omega⟩)
      · omega
      · rw [e1]; exact nI_ge (b := 1000) (by omega) (by omega)
      · rw [(e3 hS).1]
        have := (e3 hS).2
        exact nI_ge (by omega) (by omega)
  · intro h u v e hK
    rcases hK with ⟨i, hi, rfl, rfl, rfl⟩ | ⟨hu, hv, _, h1, h2, h3, h4⟩
    · have := h.1 i hi
      omega
    · obtain ⟨l, D, e1, e2, e3, e4, e5⟩ := hM u v hu hv
      have el : l = e := by
        rw [h3] at e1
        exact ((nI_eq (by omega) (by omega)).mp e1).symm
      subst el
      obtain ⟨q, hq, wq, rq, dq⟩ := e4 h4
      have hun := rb_W_start hF hq wq
      have hlw := rb_Lw h.1 q u v wq
      have hD : p < D := by
        rw [(e3 hS).1] at h2
        have := (e3 hS).2
        rcases Nat.lt_or_ge p D with h' | h'
        · exact h'
        · exact absurd (nI_le h' hp) h2
      have hne : rb_r w q + t u ≠ t v := by
        intro e
        have := h.2 u v q hun wq e
        have := dq hS
        omega
      omega
theorem rb_K_n (hC : rb_C F T d m n) (hM : rb_Me F T w d m le lo) {P : Int32} (u v e : Nat) (hK : rb_K F T w m le lo P u v e) : u < n ∧ v < n := by
  obtain ⟨_, hn5, hm12, hF, hT, hd⟩ := hC
  rcases hK with ⟨i, hi, rfl, rfl, rfl⟩ | ⟨hu, hv, _, h1, h2, h3, h4⟩
  · exact ⟨hF i hi, hT i hi⟩
  · obtain ⟨l, D, e1, e2, e3, e4, e5⟩ := hM u v hu hv
    have el : l = e := by
      rw [h3] at e1
      exact ((nI_eq (by omega) (by omega)).mp e1).symm
    subst el
    obtain ⟨q, hq, wq, rq, dq⟩ := e4 h4
    have hun := rb_W_start hF hq wq
    exact ⟨hun, rb_W_end hT q u v hun wq⟩
/-- a least solution is a least plan -/
theorem rb_Ls_Le (hC : rb_C F T d m n) (hcap : rb_cap F T w m) (hS : rb_S F T w m) (hM : rb_Me F T w d m le lo) {g : Nat} (hg : rb_gd d n g) (hgp : g ≤ p) (hp : p < 2 ^ 31) {t : Nat → Nat} :
    rb_Ls (rb_K F T w m le lo (nI p)) t → rb_Le F T w d m n p t := by
  intro ⟨h1, h2⟩
  have h3 := (rb_Sat_Fe hC hcap hS hM hg hgp hp).mp h1
  refine ⟨h3, fun x hx => ?_, fun t' f' x _ => h2 t' ((rb_Sat_Fe hC hcap hS hM hg hgp hp).mpr f') x⟩
  have := h2 _ ((rb_Sat_Fe hC hcap hS hM hg hgp hp).mpr (rb_Fe_cut hC.2.2.2.1 hC.2.2.2.2.1 h3)) x
  rw [if_neg (by omega)] at this
  omega
theorem rb_Le_Ls (hC : rb_C F T d m n) (hcap : rb_cap F T w m) (hS : rb_S F T w m) (hM : rb_Me F T w d m le lo) {g : Nat} (hg : rb_gd d n g) (hgp : g ≤ p) (hp : p < 2 ^ 31) {t : Nat → Nat} :
    rb_Le F T w d m n p t → rb_Ls (rb_K F T w m le lo (nI p)) t := by
  intro ⟨h1, h2, h3⟩
  refine ⟨(rb_Sat_Fe hC hcap hS hM hg hgp hp).mpr h1, fun s hs x => ?_⟩
  by_cases hx : x < n
  · exact h3 s ((rb_Sat_Fe hC hcap hS hM hg hgp hp).mp hs) x hx
  · rw [h2 x (by omega)]; omega
end
end
section
/-! the component's greatestDelay, period, lower, canReach -/
theorem rb_add_T {x y : Int32} (h1 : -2147483648 ≤ x.toInt + y.toInt) (h2 : x.toInt + y.toInt ≤ 2147483647) : (x + y).toInt = x.toInt + y.toInt := by
  rw [Int32.toInt_add]
  exact Int.bmod_eq_of_le (by omega) (by omega)
theorem rb_sub_T {x y : Int32} (h1 : -2147483648 ≤ x.toInt - y.toInt) (h2 : x.toInt - y.toInt ≤ 2147483647) : (x - y).toInt = x.toInt - y.toInt := by
  rw [Int32.toInt_sub]
  exact Int.bmod_eq_of_le (by omega) (by omega)
theorem rb_one_T : (1 : Int32).toInt = 1 := by decide
theorem rb_low_T {a c : Nat} (ha : a < 2 ^ 20) (hc : c < 2 ^ 20) : (-nI a + (nI c - 1)).toInt = (c : Int) - 1 - a := by
  have h1 : (-nI a).toInt = -(a : Int) := sb_negT (by omega)
  have h2 : (nI c).toInt = (c : Int) := nI_toInt (by omega)
  have h3 : (nI c - 1).toInt = (c : Int) - 1 := by rw [rb_sub_T] <;> rw [h2, rb_one_T] <;> omega
  rw [rb_add_T] <;> rw [h1, h3] <;> omega
theorem rb_low_lt {a b c : Nat} (ha : a < 2 ^ 20) (hb : b < 2 ^ 20) (hc : c < 2 ^ 20) : -nI a + (nI c - 1) < -nI b ↔ ¬ a + 1 ≤ b + c := by
  rw [Int32.lt_iff_toInt_lt, rb_low_T ha hc, sb_negT (by omega)]
  omega
theorem rb_low_eq {a c : Nat} (ha : a < 2 ^ 20) (hc2 : c < 2 ^ 20) (hc : c ≤ a + 1) : -nI a + (nI c - 1) = -nI (a + 1 - c) := by
  apply Int32.toInt_inj.mp
  rw [rb_low_T ha hc2, sb_negT (by omega)]
  omega
/-- the lags are these drops -/
def rb_La (la : Nat → Int32) (t : Nat → Nat) : Prop := ∀ x, x < 5 → la x = -nI (t x)
theorem rb_X_lower {post : Int32 → SX → Prop} {bc wc kn so : Int32} {de fb tb he le lo la : Nat → Int32} {t : Nat → Nat} {u v c : Nat} (hu : u < 5) (hv : v < 5) (hla : rb_La la t)
    (b1 : ∀ x, t x < 2 ^ 20) (b2 : c < 2 ^ 20) {p2 : Int32} (hp : p2 = nI c - 1)
    (h1 : t v + 1 ≤ t u + c → post 0 (bc, wc, kn, so, de, fb, tb, he, le, lo, la))
    (h2 : ¬ t v + 1 ≤ t u + c → ∀ la', rb_La la' (fun x => if x = u then t v + 1 - c else t x) → post 1 (bc, wc, kn, so, de, fb, tb, he, le, lo, la')) :
    wpX_lower post (bc, wc, kn, so, de, fb, tb, he, le, lo, la) (nI u) (nI v) p2 := by
  have iu : vp_in (nI u) 5 := vp_in_nI hu (by omega)
  have iv : vp_in (nI v) 5 := vp_in_nI hv (by omega)
  unfold wpX_lower
  dsimp only
  rw [nI_clamp (n := u) (by omega), nI_clamp (n := v) (by omega), hla u hu, hla v hv, hp]
  refine ⟨iu, iv, br_c (fun hlt => ?_) (fun hlt => ?_)⟩
  · rw [rb_low_lt (b1 v) (b1 u) b2] at hlt
    refine ⟨iv, iu, fun y ey => ?_⟩
    subst ey
    refine h2 hlt _ (fun x hx => ?_)
    rw [rb_low_eq (b1 v) b2 (by omega)]
    show (if x = u then _ else la x) = -nI (if x = u then t v + 1 - c else t x)
    by_cases e : x = u
    · rw [if_pos e, if_pos e]
    · rw [if_neg e, if_neg e]; exact hla x hx
  · rw [rb_low_lt (b1 v) (b1 u) b2] at hlt
    exact h1 (by omega)
section
variable {F T w d : Nat → Nat} {m n : Nat} {bc wc kn so : Int32} {fb tb he le lo la : Nat → Int32}
theorem rb_X_gd4 {post : Int32 → Prop} (hn5 : n ≤ 5) (hn1 : 1 ≤ n) (hd : ∀ x, d x ≤ 9) (h : ∀ g, rb_gd d n g → post (nI g)) :
    ∀ (N v g : Nat), n - v < N → v ≤ n → (∀ x, x < v → d x ≤ g) → (g = 0 ∨ ∃ x, x < v ∧ d x = g) →
    wX_greatestDelay_4 post (nI n) wc kn so (rb_A d) fb tb he le lo la N (nI g) (nI v) := by
  intro N
  induction N with
  | zero => intro v g hN; omega
  | succ N ih =>
    intro v g hN hv h1 h2
    have hg9 : g ≤ 9 := by
      rcases h2 with h2 | ⟨x, _, h2⟩
      · omega
      · have := hd x; omega
    by_cases hvn : v = n
    · subst hvn
      refine br_t (nI_le (by omega) (by omega)) (h g ⟨h1, ?_⟩)
      rcases h2 with h2 | h2
      · refine ⟨0, by omega, ?_⟩
        have := h1 0 (by omega)
        omega
      · exact h2
    · refine br_f (nI_ge (by omega) (by omega)) ?_
      have hd9 := hd v
      have iv : vp_in (nI v) 5 := vp_in_nI (by omega) (by omega)
      rw [nI_clamp (n := v) (by omega)]
      refine ⟨iv, pk_le (d v) g (fun hle => ?_) (fun hgt => ?_)⟩
      · intro x ex
        rw [nI_1] at ex
        subst ex
        refine ih (v + 1) g (by omega) (by omega) (fun x hx => ?_) ?_
        · by_cases e : x = v
          · rw [e]; exact hle
          · exact h1 x (by omega)
        · rcases h2 with h2 | ⟨x, hx, h2⟩
          · exact Or.inl h2
          · exact Or.inr ⟨x, by omega, h2⟩
      · refine ⟨iv, fun y ey x ex => ?_⟩
        rw [nI_1] at ex
        have ey : y = nI (d v) := ey
        subst ex; subst ey
        refine ih (v + 1) (d v) (by omega) (by omega) (fun x hx => ?_) (Or.inr ⟨v, by omega, rfl⟩)
        by_cases e : x = v
        · rw [e]; exact Nat.le_refl _
        · have := h1 x (by omega)
          omega
theorem rb_X_gd {post : Int32 → Prop} (hC : rb_C F T d m n) (h : ∀ g, rb_gd d n g → post (nI g)) :
    wpX_greatestDelay post (nI n, wc, kn, so, rb_A d, fb, tb, he, le, lo, la) :=
  ⟨n + 1, rb_X_gd4 hC.2.1 hC.1 hC.2.2.2.2.2 h (n + 1) 0 0 (by omega) (by omega) (fun x hx => by omega) (Or.inl rfl)⟩
theorem rb_gd_un {g g' : Nat} (h : rb_gd d n g) (h' : rb_gd d n g') : g = g' := by
  obtain ⟨h1, x, hx, e⟩ := h
  obtain ⟨h1', x', hx', e'⟩ := h'
  have := h1 x' hx'
  have := h1' x hx
  omega
/-- one round over the couples -/
theorem rb_X_101 {post : Int32 → SX → Prop} {J : Int32 → Int32 → Int32 → Int32 → Int32 → Int32 → (Nat → Int32) → (Nat → Int32) → (Nat → Int32) → (Nat → Int32) → (Nat → Int32) → (Nat → Int32) → (Nat → Int32) → Prop}
    (hM : rb_Me F T w d m le lo) {P : Int32} {t0 : Nat → Nat} {B r : Nat} (hB : B < 1000) {de : Nat → Int32}
    (hJ : ∀ (low' : Int32) (t' : Nat → Nat) (la' : Nat → Int32), rb_Ro (rb_K F T w m le lo P) (rb_K F T w m le lo P) t0 t' low' → (∀ x, t' x ≤ B + 25) → rb_La la' t' →
      J low' (nI (r + 1)) bc wc kn so de fb tb he le lo la') :
    ∀ (N c : Nat) (t : Nat → Nat) (la : Nat → Int32) (low : Int32), 25 - c < N → c ≤ 25 →
    rb_Ro (rb_K F T w m le lo P) (fun u v e => rb_Kw F T w m u v e ∨ rb_Kc le lo P c u v e) t0 t low → (∀ x, t x ≤ B + c) → rb_La la t →
    wX_canReach_101 post J P (nI r) N low (nI c) bc wc kn so de fb tb he le lo la := by
  intro N
  induction N with
  | zero => intro c t la low hN; omega
  | succ N ih =>
    intro c t la low hN hc hR hb hla
    by_cases h25 : c = 25
    · subst h25
      refine br_t (nI_le (a := 25) (by omega) (by omega)) ?_
      intro x ex
      rw [nI_1] at ex
      subst ex
      exact hJ low t la hR hb hla
    · have c25 : c < 25 := by omega
      refine br_f (nI_ge (b := 25) (by omega) (by omega)) ?_
      have ic : vp_in (nI c) 25 := vp_in_nI (by omega) (by omega)
      have e1 : nI c / 5 = nI (c / 5) := pk_div (d := 5) (by omega) (by omega) (by omega)
      have e2 : nI c - nI c / 5 * 5 = nI (c % 5) := pk_rem (d := 5) (by omega) (by omega) (by omega)
      rw [nI_clamp (n := c) (by omega), e2, e1]
      have hu : c / 5 < 5 := by omega
      have hv : c % 5 < 5 := by omega
      have ec : 5 * (c / 5) + c % 5 = c := by omega
      have hbu : ∀ x, t x ≤ B + (c + 1) := fun x => by have := hb x; omega
      have hnext : ∀ (low' : Int32) (t' : Nat → Nat) (la' : Nat → Int32), rb_Ro (rb_K F T w m le lo P) (fun u v e => rb_Kw F T w m u v e ∨ rb_Kc le lo P (c + 1) u v e) t0 t' low' →
          (∀ x, t' x ≤ B + (c + 1)) → rb_La la' t' → ∀ x, x = nI c + 1 → wX_canReach_101 post J P (nI r) N low' x bc wc kn so de fb tb he le lo la' := by
        intro low' t' la' h1 h2 h3 x ex
        rw [nI_1] at ex
        subst ex
        exact ih (c + 1) t' la' low' (by omega) (by omega) h1 h2 h3
      have hskip : ((1000 : Int32) ≤ le c ∨ lo c ≤ P) → rb_Ro (rb_K F T w m le lo P) (fun u v e => rb_Kw F T w m u v e ∨ rb_Kc le lo P (c + 1) u v e) t0 t low := by
        intro hs
        refine rb_Ro_skip hR ?_
        intro a b e hd
        rcases hd with hd | ⟨a5, b5, ab, g1, g2, g3, g4⟩
        · exact Or.inl hd
        · refine Or.inr ⟨a5, b5, ?_, g1, g2, g3, g4⟩
          rcases Nat.lt_or_ge (5 * a + b) c with h' | h'
          · exact h'
          · have : 5 * a + b = c := by omega
            rw [this] at g1 g2
            rcases hs with hs | hs
            · exact absurd hs g1
            · exact absurd hs g2
      refine ⟨ic, br_c (fun h1 => hnext low t la (hskip (Or.inl h1)) hbu hla) (fun h1 => ⟨ic, br_c (fun h2 => hnext low t la (hskip (Or.inr h2)) hbu hla) (fun h2 => ⟨by decide, by decide, ic, ?_⟩)⟩)⟩
      obtain ⟨l, D, g1, g2, g3, g4, g5⟩ := hM (c / 5) (c % 5) hu hv
      rw [ec] at g1
      have hl : l < 1000 := by
        rcases Nat.lt_or_ge l 1000 with h' | h'
        · exact h'
        · rw [g1] at h1
          exact absurd (nI_le (a := 1000) h' (by omega)) h1
      have hK : rb_Kc le lo P (c + 1) (c / 5) (c % 5) l := ⟨hu, hv, by omega, by rw [ec]; exact h1, by rw [ec]; exact h2, by rw [ec]; exact g1, hl⟩
      have hD : ∀ a b e, (rb_Kw F T w m a b e ∨ rb_Kc le lo P (c + 1) a b e) → (rb_Kw F T w m a b e ∨ rb_Kc le lo P c a b e) ∨ (a = c / 5 ∧ b = c % 5 ∧ e = l) := by
        intro a b e hd
        rcases hd with hd | ⟨a5, b5, ab, k1, k2, k3, k4⟩
        · exact Or.inl (Or.inl hd)
        · rcases Nat.lt_or_ge (5 * a + b) c with h' | h'
          · exact Or.inl (Or.inr ⟨a5, b5, h', k1, k2, k3, k4⟩)
          · have ee : 5 * a + b = c := by omega
            rw [ee, g1] at k3
            exact Or.inr ⟨by omega, by omega, ((nI_eq (by omega) (by omega)).mp k3).symm⟩
      refine rb_X_lower (c := l) hu hv hla (fun x => by have := hb x; omega) (by omega) (by rw [g1]) (fun hk => ?_) (fun hk la' hla' => ?_)
      · exact br_t rfl (hnext low t la (rb_Ro_keep hR hD hk) hbu hla)
      · refine br_f (by decide) (hnext 1 _ la' (rb_Ro_low hR hD (Or.inr ⟨hu, hv, by omega, hK.2.2.2.1, hK.2.2.2.2.1, hK.2.2.2.2.2.1, hl⟩) hk) (fun x => ?_) hla')
        show (if x = c / 5 then t (c % 5) + 1 - l else t x) ≤ B + (c + 1)
        have := hb (c % 5)
        have := hb x
        split <;> omega
theorem rb_X_53 {post : Int32 → SX → Prop} {J : Int32 → Int32 → Int32 → Int32 → Int32 → Int32 → (Nat → Int32) → (Nat → Int32) → (Nat → Int32) → (Nat → Int32) → (Nat → Int32) → (Nat → Int32) → (Nat → Int32) → Prop}
    (hC : rb_C F T d m n) (hcap : ∀ i, i < m → w i < 1000) (hM : rb_Me F T w d m le lo) {P : Int32} {t0 : Nat → Nat} {B r : Nat} (hB : B < 900) {de : Nat → Int32}
    (hJ : ∀ (low' : Int32) (t' : Nat → Nat) (la' : Nat → Int32), rb_Ro (rb_K F T w m le lo P) (rb_K F T w m le lo P) t0 t' low' → (∀ x, t' x ≤ B + 37) → rb_La la' t' →
      J low' (nI (r + 1)) bc (nI m) kn so de (rb_A F) (rb_A T) (rb_A w) le lo la') :
    ∀ (N j : Nat) (t : Nat → Nat) (la : Nat → Int32) (low : Int32), m - j < N → j ≤ m →
    rb_Ro (rb_K F T w m le lo P) (rb_Kw F T w j) t0 t low → (∀ x, t x ≤ B + j) → rb_La la t →
    wX_canReach_53 post J P (nI r) N low (nI j) bc (nI m) kn so de (rb_A F) (rb_A T) (rb_A w) le lo la := by
  obtain ⟨hn1, hn5, hm12, hF, hT, hd⟩ := hC
  intro N
  induction N with
  | zero => intro j t la low hN; omega
  | succ N ih =>
    intro j t la low hN hj hR hb hla
    by_cases hjm : j = m
    · subst hjm
      refine br_t (nI_le (by omega) (by omega)) ⟨26, rb_X_101 hM (B := B + 12) (by omega) (fun low' t' la' h1 h2 h3 => hJ low' t' la' h1 (fun x => by have := h2 x; omega) h3) 26 0 t la low (by omega) (by omega) ?_ (fun x => by have := hb x; omega) hla⟩
      refine rb_Ro_skip hR ?_
      intro a b e hd
      rcases hd with hd | ⟨_, _, hd, _⟩
      · exact hd
      · omega
    · have hjm : j < m := by omega
      have f5 : F j < 5 := Nat.lt_of_lt_of_le (hF j hjm) hn5
      have t5 : T j < 5 := Nat.lt_of_lt_of_le (hT j hjm) hn5
      have hw := hcap j hjm
      refine br_f (nI_ge (by omega) (by omega)) ?_
      have ij : vp_in (nI j) 12 := vp_in_nI (by omega) (by omega)
      rw [nI_clamp (n := j) (by omega)]
      refine ⟨ij, ij, ij, ?_⟩
      have hD : ∀ a b e, rb_Kw F T w (j + 1) a b e → rb_Kw F T w j a b e ∨ (a = F j ∧ b = T j ∧ e = w j + 1) := by
        intro a b e ⟨i, hi, h1, h2, h3⟩
        by_cases e' : i = j
        · subst e'
          exact Or.inr ⟨h1.symm, h2.symm, h3⟩
        · exact Or.inl ⟨i, by omega, h1, h2, h3⟩
      have hnext : ∀ (low' : Int32) (t' : Nat → Nat) (la' : Nat → Int32), rb_Ro (rb_K F T w m le lo P) (rb_Kw F T w (j + 1)) t0 t' low' →
          (∀ x, t' x ≤ B + (j + 1)) → rb_La la' t' → ∀ x, x = nI j + 1 → wX_canReach_53 post J P (nI r) N low' x bc (nI m) kn so de (rb_A F) (rb_A T) (rb_A w) le lo la' := by
        intro low' t' la' h1 h2 h3 x ex
        rw [nI_1] at ex
        subst ex
        exact ih (j + 1) t' la' low' (by omega) (by omega) h1 h2 h3
      have hbu : ∀ x, t x ≤ B + (j + 1) := fun x => by have := hb x; omega
      refine rb_X_lower (u := F j) (v := T j) (c := w j + 1) f5 t5 hla (fun x => by have := hb x; omega) (by omega) (nI_pred (w j)).symm (fun hk => ?_) (fun hk la' hla' => ?_)
      · exact br_t rfl (hnext low t la (rb_Ro_keep hR hD hk) hbu hla)
      · refine br_f (by decide) (hnext 1 _ la' (rb_Ro_low hR hD (Or.inl ⟨j, hjm, rfl, rfl, rfl⟩) hk) (fun x => ?_) hla')
        show (if x = F j then t (T j) + 1 - (w j + 1) else t x) ≤ B + (j + 1)
        have := hb (T j)
        have := hb x
        split <;> omega
/-- at the head of a round -/
def rb_Hd (K : Nat → Nat → Nat → Prop) (n r : Nat) (t : Nat → Nat) (low : Int32) : Prop :=
  (r = 0 ∧ low = 1 ∧ rb_HI K n 0 t) ∨ ∃ r' t0, r = r' + 1 ∧ rb_HI K n r' t0 ∧ rb_Ro K K t0 t low
theorem rb_X_37 {post : Int32 → SX → Prop}
    (hC : rb_C F T d m n) (hcap : ∀ i, i < m → w i < 1000) (hM : rb_Me F T w d m le lo) {P : Int32} {de : Nat → Int32}
    (h1 : ∀ t la', rb_Ls (rb_K F T w m le lo P) t → rb_La la' t → post 1 (bc, nI m, kn, so, de, rb_A F, rb_A T, rb_A w, le, lo, la'))
    (h0 : ∀ la', (∀ s, (∀ x, n ≤ x → s x = 0) → ¬ rb_Ls (rb_K F T w m le lo P) s) → post 0 (bc, nI m, kn, so, de, rb_A F, rb_A T, rb_A w, le, lo, la')) :
    ∀ (N r : Nat) (t : Nat → Nat) (la : Nat → Int32) (low : Int32), 6 - r < N → r ≤ 6 →
    rb_Hd (rb_K F T w m le lo P) n r t low → (∀ x, t x ≤ 37 * r) → rb_La la t →
    wX_canReach_37 post P N low (nI r) bc (nI m) kn so de (rb_A F) (rb_A T) (rb_A w) le lo la := by
  have hKn := fun u v e => rb_K_n (P := P) hC hM u v e
  have hn5 := hC.2.1
  intro N
  induction N with
  | zero => intro j t la low hN; omega
  | succ N ih =>
    intro r t la low hN hr hH hb hla
    have hHI : rb_HI (rb_K F T w m le lo P) n r t := by
      rcases hH with ⟨e, _, h⟩ | ⟨r', t0, e, hI, hR⟩
      · rw [e]; exact h
      · rw [e]; exact rb_HI_step hKn hI hR
    by_cases h6 : r = 6
    · subst h6
      refine br_t (nI_le (a := 6) (by omega) (by omega)) ?_
      rcases hH with ⟨e, _, h⟩ | ⟨r', t0, e, hI, hR⟩
      · omega
      · have e5 : r' = 5 := by omega
        subst e5
        exact br_c (fun hl => h1 t la (rb_HI_done hI hR hl) hla) (fun hl => h0 la (fun s hs0 hs => rb_HI_end hn5 hs0 hI hR hl hs))
    · refine br_f (nI_ge (b := 6) (by omega) (by omega)) (br_c (fun hl => ?_) (fun hl => ?_))
      · rcases hH with ⟨_, e, _⟩ | ⟨r', t0, e, hI, hR⟩
        · rw [e] at hl
          exact absurd hl (by decide)
        · exact br_t hl (h1 t la (rb_HI_done hI hR hl) hla)
      · refine ⟨m + 1, rb_X_53 hC hcap hM (B := 37 * r) (t0 := t) (by omega) (fun low' t' la' hR hb' hla' => ?_) (m + 1) 0 t la 0 (by omega) (by omega) ?_ (fun x => by have := hb x; omega) hla⟩
        · exact ih (r + 1) t' la' low' (by omega) (by omega) (Or.inr ⟨r, t, rfl, hHI, hR⟩) (fun x => by have := hb' x; omega) hla'
        · exact ⟨fun _ => Nat.le_refl _, fun s _ h x => h x, fun u v c ⟨i, hi, _⟩ => by omega, fun _ _ => rfl, fun h => absurd rfl h⟩
theorem rb_X_14 {post : Int32 → SX → Prop} {P : Int32} {de : Nat → Int32}
    (h : ∀ la', rb_La la' (fun _ => 0) → ∃ N', wX_canReach_37 post P N' 1 0 bc wc kn so de fb tb he le lo la') :
    ∀ (N v : Nat) (la : Nat → Int32), 5 - v < N → v ≤ 5 → (∀ x, x < v → la x = 0) →
    wX_canReach_14 post P bc wc kn so N (nI v) de fb tb he le lo la := by
  intro N
  induction N with
  | zero => intro v la hN; omega
  | succ N ih =>
    intro v la hN hv hI
    by_cases h5 : v = 5
    · subst h5
      exact br_t (nI_le (a := 5) (by omega) (by omega)) (h la (fun x hx => by rw [hI x hx]; show (0 : Int32) = -nI 0; decide))
    · refine br_f (nI_ge (b := 5) (by omega) (by omega)) ?_
      rw [nI_clamp (n := v) (by omega)]
      refine ⟨vp_in_nI (by omega) (by omega), fun y ey x ex => ?_⟩
      rw [nI_1] at ex
      subst ex; subst ey
      refine ih (v + 1) _ (by omega) (by omega) (fun x hx => ?_)
      by_cases e : x = v
      · rw [e, pk_us]
      · rw [pk_un e]; exact hI x (by omega)
/-- canReach: a least plan, or none -/
theorem rb_X_canReach {post : Int32 → SX → Prop} (hC : rb_C F T d m n) (hcap : rb_cap F T w m) (hS : rb_S F T w m) (hM : rb_Me F T w d m le lo) {P : Int32}
    (h1 : ∀ p t la', P = nI p → p < 2 ^ 31 → rb_Le F T w d m n p t → rb_La la' t → post 1 (nI n, nI m, kn, so, rb_A d, rb_A F, rb_A T, rb_A w, le, lo, la'))
    (h0 : ∀ la', (∀ p t, P = nI p → p < 2 ^ 31 → ¬ rb_Fe F T w d m n p t) → post 0 (nI n, nI m, kn, so, rb_A d, rb_A F, rb_A T, rb_A w, le, lo, la')) :
    wpX_canReach post (nI n, nI m, kn, so, rb_A d, rb_A F, rb_A T, rb_A w, le, lo, la) P := by
  refine rb_X_gd hC ?_
  intro g hg
  have hg9 : g ≤ 9 := by
    obtain ⟨x, _, e⟩ := hg.2
    have := hC.2.2.2.2.2 x
    omega
  refine br_c (fun hle => ?_) (fun hle => h0 la (fun p t e hp hf => hle ?_))
  · have hpos : ¬ P < 0 := by
      intro hlt
      have h0 : (0 : Int32).toInt = 0 := by decide
      rw [Int32.lt_iff_toInt_lt, h0] at hlt
      rw [Int32.le_iff_toInt_le, nI_toInt (by omega)] at hle
      omega
    obtain ⟨p, hp, e⟩ := nI_of hpos
    subst e
    rw [nI_leI (by omega) hp] at hle
    refine ⟨6, rb_X_14 (fun la' hla' => ⟨7, ?_⟩) 6 0 la (by omega) (by omega) (fun x hx => by omega)⟩
    refine rb_X_37 hC hcap.1 hM (fun t la' hs hla' => h1 p t la' rfl hp (rb_Ls_Le hC hcap hS hM hg hle hp hs) hla') (fun la' hno => h0 la' ?_) 7 0 (fun _ => 0) la' 1 (by omega) (by omega)
      (Or.inl ⟨rfl, rfl, rb_HI_0 (fun u v e => rb_K_n hC hM u v e)⟩) (fun x => by omega) hla'
    intro p' t e hp' hf
    have e' : p = p' := (nI_eq hp hp').mp e
    subst e'
    obtain ⟨t1, f1⟩ := rb_Le_ex hC.2.2.2.1 hC.2.2.2.2.1 hf
    exact hno t1 f1.2.1 (rb_Le_Ls hC hcap hS hM hg hle hp f1)
  · subst e
    rw [nI_leI (by omega) hp]
    obtain ⟨x, hx, e⟩ := hg.2
    have := hf.2 x x [] hx rfl (by simp [rb_r])
    simp only [rb_r] at this
    omega
end
end
section
/-! the component's period and best -/
/-- P is the longest run under the drops t -/
def rb_pt (F T w d : Nat → Nat) (m n : Nat) (t : Nat → Nat) (P : Nat) : Prop :=
  (∀ (u v : Nat) (q : List Nat), u < n → rb_W F T m u v q → rb_r w q + t u = t v → d u + rb_r (fun i => d (T i)) q ≤ P) ∧
  ∃ (u v : Nat) (q : List Nat), u < n ∧ rb_W F T m u v q ∧ rb_r w q + t u = t v ∧ d u + rb_r (fun i => d (T i)) q = P
section
variable {F T w d : Nat → Nat} {m n : Nat} {bc wc kn so : Int32} {le lo la : Nat → Int32}
theorem rb_pt_un {t : Nat → Nat} {P P' : Nat} (h : rb_pt F T w d m n t P) (h' : rb_pt F T w d m n t P') : P = P' := by
  obtain ⟨h1, u, v, q, a, b, c, e⟩ := h
  obtain ⟨h1', u', v', q', a', b', c', e'⟩ := h'
  have := h1 u' v' q' a' b' c'
  have := h1' u v q a b c
  omega
theorem rb_pt_Fe {t : Nat → Nat} {P p : Nat} (hl : rb_L F T w m t) (h : rb_pt F T w d m n t P) : rb_Fe F T w d m n p t ↔ P ≤ p := by
  obtain ⟨h1, u, v, q, a, b, c, e⟩ := h
  constructor
  · intro hf
    have := hf.2 u v q a b c
    omega
  · intro hp
    exact ⟨hl, fun u v q hu hq he => Nat.le_trans (h1 u v q hu hq he) hp⟩
theorem rb_X_21 {post : Int32 → SX → Prop} (hC : rb_C F T d m n) (hS : rb_S F T w m) (hM : rb_Me F T w d m le lo)
    (h : ∀ P, rb_pt F T w d m n (fun _ => 0) P → post (nI P) (nI n, nI m, kn, so, rb_A d, rb_A F, rb_A T, rb_A w, le, lo, la)) :
    ∀ (N c P : Nat), 25 - c < N → c ≤ 25 → P < 100000 → (∀ x, x < n → d x ≤ P) → (∀ u v D, u < 5 → v < 5 → 5 * u + v < c → le (5 * u + v) = 0 → lo (5 * u + v) = nI D → D < 100000 → D ≤ P) →
    (∃ (u v : Nat) (q : List Nat), u < n ∧ rb_W F T m u v q ∧ rb_r w q + 0 = 0 ∧ d u + rb_r (fun i => d (T i)) q = P) →
    wX_period_21 post (nI n) (nI m) kn so (rb_A d) (rb_A F) (rb_A T) (rb_A w) le lo la N (nI P) (nI c) := by
  obtain ⟨hn1, hn5, hm12, hF, hT, hd⟩ := hC
  intro N
  induction N with
  | zero => intro c P hN; omega
  | succ N ih =>
    intro c P hN hc hP hg hI hA
    by_cases h25 : c = 25
    · subst h25
      refine br_t (nI_le (a := 25) (by omega) (by omega)) (h P ⟨fun u v q hu hq he => ?_, hA⟩)
      by_cases hq0 : q = []
      · subst hq0
        have := hg u hu
        simp only [rb_r]; omega
      · have he : rb_r w q + 0 = 0 := he
        have hv := rb_W_end hT q u v hu hq
        obtain ⟨l, D, e1, e2, e3, e4, e5⟩ := hM u v (by omega) (by omega)
        obtain ⟨g1, g2⟩ := e5 q hq0 hq trivial (by omega)
        have el : l = 0 := by omega
        have g3 := g2 hS (by omega)
        have := hI u v D (by omega) (by omega) (by omega) (by rw [e1, el]; rfl) (e3 hS).1 (e3 hS).2
        omega
    · have c25 : c < 25 := by omega
      have hu : c / 5 < 5 := by omega
      have hv : c % 5 < 5 := by omega
      have ec : 5 * (c / 5) + c % 5 = c := by omega
      have ic : vp_in (nI c) 25 := vp_in_nI (by omega) (by omega)
      obtain ⟨l, D, e1, e2, e3, e4, e5⟩ := hM (c / 5) (c % 5) hu hv
      rw [ec] at e1 e3
      have hlo := (e3 hS).1
      have hD := (e3 hS).2
      have hstep : ∀ P', P ≤ P' → (le c = 0 → D ≤ P') → ∀ u v D', u < 5 → v < 5 → 5 * u + v < c + 1 → le (5 * u + v) = 0 → lo (5 * u + v) = nI D' → D' < 100000 → D' ≤ P' := by
        intro P' hPP hh u v D' hu hv hlt hz hl hD'
        by_cases e : 5 * u + v = c
        · rw [e] at hz hl
          rw [hlo] at hl
          have := (nI_eq (by omega) (by omega)).mp hl
          have := hh hz
          omega
        · have := hI u v D' hu hv (by omega) hz hl hD'
          omega
      refine br_f (nI_ge (b := 25) (by omega) (by omega)) ?_
      rw [nI_clamp (n := c) (by omega)]
      refine ⟨ic, br_c (fun hz => ⟨ic, ?_⟩) (fun hz => ?_)⟩
      · rw [hlo]
        refine pk_le D P (fun hle => ?_) (fun hgt => ?_)
        · intro x ex
          rw [nI_1] at ex
          subst ex
          exact ih (c + 1) P (by omega) (by omega) hP hg (hstep P (by omega) (fun _ => hle)) hA
        · refine ⟨ic, fun y ey x ex => ?_⟩
          rw [nI_1] at ex
          subst ex; subst ey
          have el : l = 0 := by
            rw [e1] at hz
            exact (nI_eq (b := 0) (by omega) (by omega)).mp hz
          obtain ⟨q, hq, wq, rq, dq⟩ := e4 (by omega)
          exact ih (c + 1) D (by omega) (by omega) hD (fun x hx => by have := hg x hx; omega) (hstep D (by omega) (fun _ => Nat.le_refl _))
            ⟨c / 5, c % 5, q, rb_W_start hF hq wq, wq, by omega, dq hS⟩
      · intro x ex
        rw [nI_1] at ex
        subst ex
        exact ih (c + 1) P (by omega) (by omega) hP hg (hstep P (by omega) (fun hh => absurd hh hz)) hA
theorem rb_sf_0 (h : rb_sf F T w m so) (h0 : so = 0) : ¬ rb_S F T w m := by
  rcases h with ⟨e, _⟩ | ⟨_, h⟩
  · rw [e] at h0; exact absurd h0 (by decide)
  · exact h
theorem rb_sf_1 (h : rb_sf F T w m so) (h0 : ¬ so = 0) : rb_S F T w m := by
  rcases h with ⟨_, h⟩ | ⟨e, _⟩
  · exact h
  · exact absurd e h0
theorem rb_X_period {post : Int32 → SX → Prop} (hC : rb_C F T d m n) (hcap : rb_cap F T w m)
    (hK : ¬ kn = 0 → kn = 1 ∧ rb_Me F T w d m le lo ∧ rb_sf F T w m so)
    (h3 : ¬ rb_S F T w m → ∀ so' le' lo', rb_Me F T w d m le' lo' → rb_sf F T w m so' → post (-3) (nI n, nI m, 1, so', rb_A d, rb_A F, rb_A T, rb_A w, le', lo', la))
    (hP : rb_S F T w m → ∀ P so' le' lo', rb_pt F T w d m n (fun _ => 0) P → rb_Me F T w d m le' lo' → rb_sf F T w m so' → post (nI P) (nI n, nI m, 1, so', rb_A d, rb_A F, rb_A T, rb_A w, le', lo', la)) :
    wpX_period post (nI n, nI m, kn, so, rb_A d, rb_A F, rb_A T, rb_A w, le, lo, la) := by
  refine rb_X_measure hC hcap.1 hK ?_
  intro so' le' lo' hM hs
  refine br_c (fun h0 => h3 (rb_sf_0 hs h0) so' le' lo' hM hs) (fun h0 => ?_)
  have hS := rb_sf_1 hs h0
  refine rb_X_gd hC ?_
  intro g hg
  obtain ⟨x, hx, e⟩ := hg.2
  have hd9 := hC.2.2.2.2.2 x
  exact ⟨26, rb_X_21 hC hS hM (fun P hp => hP hS P so' le' lo' hp hM hs) 26 0 g (by omega) (by omega) (by omega) hg.1 (fun _ _ _ _ _ h => by omega) ⟨x, x, [], hx, rfl, by simp [rb_r], by simp [rb_r, e]⟩⟩
/-- the best period, if not the greatest delay, is some couple's longest -/
theorem rb_Op_D (hC : rb_C F T d m n) (hcap : rb_cap F T w m) (hS : rb_S F T w m) (hM : rb_Me F T w d m le lo) {p g : Nat} {t : Nat → Nat} (hO : rb_Op F T w d m n p t) (hg : rb_gd d n g) (hgp : g < p) :
    ∃ u v l, u < 5 ∧ v < 5 ∧ le (5 * u + v) = nI l ∧ l < 1000 ∧ lo (5 * u + v) = nI p := by
  obtain ⟨hn1, hn5, hm12, hF, hT, hd⟩ := hC
  have hl := hO.1.1.1
  have hn : ¬ rb_Fe F T w d m n (p - 1) t := by
    intro hf
    have := hO.2 _ _ hf
    omega
  have hex : ∃ (u v : Nat) (q : List Nat), u < n ∧ rb_W F T m u v q ∧ rb_r w q + t u = t v ∧ ¬ d u + rb_r (fun i => d (T i)) q ≤ p - 1 := by
    refine Classical.byContradiction fun hc => hn ⟨hl, fun u v q hu hq he => ?_⟩
    exact Classical.byContradiction fun hd => hc ⟨u, v, q, hu, hq, he, hd⟩
  obtain ⟨u, v, q, hu, hq, he, hdl⟩ := hex
  have hle := hO.1.1.2 u v q hu hq he
  have hq0 : q ≠ [] := by
    intro e
    subst e
    have := hg.1 u hu
    simp only [rb_r] at hdl
    omega
  have hv := rb_W_end hT q u v hu hq
  have hmin : ∀ q', rb_W F T m u v q' → rb_r w q ≤ rb_r w q' := by
    intro q' hq'
    have := rb_Lw hl q' u v hq'
    omega
  obtain ⟨q', _, w', _, r'⟩ := hcap.2 u v q hq0 hq
  have hr : rb_r w q < 1000 := Nat.lt_of_le_of_lt (hmin q' w') r'
  obtain ⟨l, D, e1, e2, e3, e4, e5⟩ := hM u v (by omega) (by omega)
  obtain ⟨g1, g2⟩ := e5 q hq0 hq trivial hr
  obtain ⟨q2, _, w2, r2, d2⟩ := e4 (by omega)
  have g3 := hmin q2 w2
  have g4 := g2 hS (by omega)
  have g5 := hO.1.1.2 u v q2 hu w2 (by omega)
  have g6 := d2 hS
  refine ⟨u, v, l, by omega, by omega, e1, by omega, ?_⟩
  rw [(e3 hS).1]
  have : D = p := by omega
  rw [this]
theorem rb_X_36 {post : Int32 → SX → Prop} (hC : rb_C F T d m n) (hcap : rb_cap F T w m) (hS : rb_S F T w m) (hM : rb_Me F T w d m le lo)
    (h : ∀ B la', (∃ t, rb_Fe F T w d m n B t) → (∀ u v l D, u < 5 → v < 5 → le (5 * u + v) = nI l → l < 1000 → lo (5 * u + v) = nI D → D < 100000 → (∃ t, rb_Fe F T w d m n D t) → B ≤ D) →
      post (nI B) (nI n, nI m, kn, so, rb_A d, rb_A F, rb_A T, rb_A w, le, lo, la')) :
    ∀ (N c B : Nat) (la : Nat → Int32), 25 - c < N → c ≤ 25 → B < 100000 → (∃ t, rb_Fe F T w d m n B t) →
    (∀ u v l D, u < 5 → v < 5 → 5 * u + v < c → le (5 * u + v) = nI l → l < 1000 → lo (5 * u + v) = nI D → D < 100000 → (∃ t, rb_Fe F T w d m n D t) → B ≤ D) →
    wX_best_36 post N (nI B) (nI c) (nI n) (nI m) kn so (rb_A d) (rb_A F) (rb_A T) (rb_A w) le lo la := by
  intro N
  induction N with
  | zero => intro c B la hN; omega
  | succ N ih =>
    intro c B la hN hc hB hf hI
    by_cases h25 : c = 25
    · subst h25
      exact br_t (nI_le (a := 25) (by omega) (by omega)) (h B la hf (fun u v l D hu hv => hI u v l D hu hv (by omega)))
    · have c25 : c < 25 := by omega
      have hu : c / 5 < 5 := by omega
      have hv : c % 5 < 5 := by omega
      have ec : 5 * (c / 5) + c % 5 = c := by omega
      have ic : vp_in (nI c) 25 := vp_in_nI (by omega) (by omega)
      obtain ⟨l, D, e1, e2, e3, e4, e5⟩ := hM (c / 5) (c % 5) hu hv
      clear e4 e5
      rw [ec] at e1 e3
      have hlo := (e3 hS).1
      have hD := (e3 hS).2
      have hnext : ∀ B' la', B' ≤ B → (∃ t, rb_Fe F T w d m n B' t) → (l < 1000 → (∃ t, rb_Fe F T w d m n D t) → B' ≤ D) →
          ∀ x, x = nI c + 1 → wX_best_36 post N (nI B') x (nI n) (nI m) kn so (rb_A d) (rb_A F) (rb_A T) (rb_A w) le lo la' := by
        intro B' la' hBB hf' hh x ex
        rw [nI_1] at ex
        subst ex
        refine ih (c + 1) B' la' (by omega) (by omega) (by omega) hf' ?_
        intro u v l' D' hu hv hlt g1 g2 g3 g4 g5
        by_cases e : 5 * u + v = c
        · rw [e] at g1 g3
          rw [e1] at g1
          rw [hlo] at g3
          have k1 := (nI_eq (by omega) (by omega)).mp g1
          have k2 := (nI_eq (by omega) (by omega)).mp g3
          subst k1; subst k2
          exact hh g2 g5
        · have := hI u v l' D' hu hv (by omega) g1 g2 g3 g4 g5
          omega
      refine br_f (nI_ge (b := 25) (by omega) (by omega)) ?_
      rw [nI_clamp (n := c) (by omega), e1, hlo]
      refine ⟨ic, pk_le 1000 l (fun hl => ?_) (fun hl => ⟨ic, pk_le B D (fun hb => ?_) (fun hb => ⟨ic, ?_⟩)⟩)⟩
      · exact hnext B la (Nat.le_refl _) hf (fun hl' => by omega)
      · exact hnext B la (Nat.le_refl _) hf (fun _ _ => hb)
      · refine rb_X_canReach hC hcap hS hM (fun p t la' e hp hL hla' => ?_) (fun la' hno => ?_)
        · have e' : D = p := (nI_eq (by omega) hp).mp e
          subst e'
          refine br_f (by decide) ⟨ic, fun y ey => ?_⟩
          have ey : y = lo c := ey
          rw [hlo] at ey
          subst ey
          exact hnext D la' (by omega) ⟨t, hL.1⟩ (fun _ _ => Nat.le_refl _)
        · exact br_t rfl (hnext B la' (Nat.le_refl _) hf (fun _ ⟨t, ht⟩ => absurd ht (hno D t rfl (by omega))))
theorem rb_Op_45 (hC : rb_C F T d m n) (hS : rb_S F T w m) {p : Nat} {t : Nat → Nat} (hO : rb_Op F T w d m n p t) : p ≤ 45 :=
  hO.2 45 _ (rb_Fe_0 hC.2.2.2.1 hC.2.2.2.2.1 hC.2.1 hC.2.2.2.2.2 hS)
theorem rb_X_best {post : Int32 → SX → Prop} (hC : rb_C F T d m n) (hcap : rb_cap F T w m)
    (hK : ¬ kn = 0 → kn = 1 ∧ rb_Me F T w d m le lo ∧ rb_sf F T w m so)
    (h3 : ¬ rb_S F T w m → ∀ so' le' lo' la', rb_Me F T w d m le' lo' → rb_sf F T w m so' → post (-3) (nI n, nI m, 1, so', rb_A d, rb_A F, rb_A T, rb_A w, le', lo', la'))
    (hP : rb_S F T w m → ∀ p t so' le' lo' la', rb_Op F T w d m n p t → rb_Me F T w d m le' lo' → rb_sf F T w m so' → post (nI p) (nI n, nI m, 1, so', rb_A d, rb_A F, rb_A T, rb_A w, le', lo', la')) :
    wpX_best post (nI n, nI m, kn, so, rb_A d, rb_A F, rb_A T, rb_A w, le, lo, la) := by
  refine rb_X_measure hC hcap.1 hK ?_
  intro so1 le1 lo1 hM1 hs1
  refine br_c (fun h0 => h3 (rb_sf_0 hs1 h0) so1 le1 lo1 la hM1 hs1) (fun h0 => ?_)
  have hS := rb_sf_1 hs1 h0
  obtain ⟨p, t, hO⟩ := rb_Op_ex hC.2.2.2.1 hC.2.2.2.2.1 (rb_Fe_0 hC.2.2.2.1 hC.2.2.2.2.1 hC.2.1 hC.2.2.2.2.2 hS)
  have hp45 := rb_Op_45 hC hS hO
  refine rb_X_period hC hcap (fun _ => ⟨rfl, hM1, hs1⟩) (fun hn => absurd hS hn) ?_
  intro _ P so2 le2 lo2 hpt hM2 hs2
  have h0Fe : rb_Fe F T w d m n P (fun _ => 0) := (rb_pt_Fe (fun i _ => Nat.zero_le _) hpt).mpr (Nat.le_refl _)
  have hP45 : P ≤ 45 := (rb_pt_Fe (fun i _ => Nat.zero_le _) hpt).mp (rb_Fe_0 hC.2.2.2.1 hC.2.2.2.2.1 hC.2.1 hC.2.2.2.2.2 hS)
  refine rb_X_gd hC ?_
  intro g hg
  have hgp : g ≤ p := by
    obtain ⟨x, hx, e⟩ := hg.2
    have := hO.1.1.2 x x [] hx rfl (by simp [rb_r])
    simp only [rb_r] at this
    omega
  refine rb_X_canReach hC hcap hS hM2 (fun p' t' la' e hp' hL hla' => ?_) (fun la' hno => ?_)
  · have e' : g = p' := (nI_eq (by omega) hp').mp e
    subst e'
    have hge := hO.2 g t' hL.1
    have ee : g = p := by omega
    subst ee
    exact br_f (by decide) (hP hS g t so2 le2 lo2 la' hO hM2 hs2)
  · have hlt : g < p := by
      rcases Nat.lt_or_ge g p with h | h
      · exact h
      · have ee : g = p := by omega
        subst ee
        exact absurd hO.1.1 (hno g t rfl (by omega))
    refine br_t rfl ⟨26, rb_X_36 hC hcap hS hM2 (fun B la2 ⟨tB, fB⟩ hall => ?_) 26 0 P la' (by omega) (by omega) (by omega) ⟨_, h0Fe⟩ (fun _ _ _ _ _ _ h => by omega)⟩
    obtain ⟨u, v, l, hu, hv, g1, g2, g3⟩ := rb_Op_D hC hcap hS hM2 hO hg hlt
    have k1 := hall u v l p hu hv g1 g2 g3 (by omega) ⟨t, hO.1.1⟩
    have k2 := hO.2 B tB fB
    have ee : B = p := by omega
    subst ee
    exact hP hS B t so2 le2 lo2 la2 hO hM2 hs2
end
end
section
/-! the reference's noLags and sound -/
section
variable {F T w d : Nat → Nat} {m n : Nat} {kn bp : Int32} {de fr to rg lg ln pl re : Nat → Int32}
theorem rb_Y_noLags2 {post : SY → Prop} {fn fm : Int32} (h : ∀ lg', rb_La lg' (fun _ => 0) → post (fn, fm, kn, bp, de, fr, to, rg, lg', ln, pl, re)) :
    ∀ (N v : Nat) (lg : Nat → Int32), 5 - v < N → v ≤ 5 → (∀ x, x < v → lg x = 0) → wY_noLags_2 post fn fm kn bp N (nI v) de fr to rg lg ln pl re := by
  intro N
  induction N with
  | zero => intro v lg hN; omega
  | succ N ih =>
    intro v lg hN hv hI
    by_cases h5 : v = 5
    · subst h5
      exact br_t (nI_le (a := 5) (by omega) (by omega)) (h lg (fun x hx => by rw [hI x hx]; show (0 : Int32) = -nI 0; decide))
    · refine br_f (nI_ge (b := 5) (by omega) (by omega)) ?_
      rw [nI_clamp (n := v) (by omega)]
      refine ⟨vp_in_nI (by omega) (by omega), fun y ey x ex => ?_⟩
      rw [nI_1] at ex
      subst ex; subst ey
      refine ih (v + 1) _ (by omega) (by omega) (fun x hx => ?_)
      by_cases e : x = v
      · rw [e, pk_us]
      · rw [pk_un e]; exact hI x (by omega)
theorem rb_Y_noLags {post : SY → Prop} {fn fm : Int32} (h : ∀ lg', rb_La lg' (fun _ => 0) → post (fn, fm, kn, bp, de, fr, to, rg, lg', ln, pl, re)) :
    wpY_noLags post (fn, fm, kn, bp, de, fr, to, rg, lg, ln, pl, re) :=
  ⟨6, rb_Y_noLags2 h 6 0 lg (by omega) (by omega) (fun x hx => by omega)⟩
/-- the last wire of a walk -/
theorem rb_W_snoc : ∀ (q : List Nat) (u v : Nat), q ≠ [] → rb_W F T m u v q → ∃ q' i, q = q' ++ [i] ∧ rb_W F T m u (F i) q' ∧ i < m ∧ T i = v := by
  intro q
  induction q with
  | nil => intro u v h; exact absurd rfl h
  | cons j q ih =>
    intro u v _ ⟨h1, h2, h3⟩
    cases q with
    | nil => exact ⟨[], j, rfl, h2.symm, h1, h3⟩
    | cons j' q =>
      obtain ⟨q', i, e, e1, e2, e3⟩ := ih (T j) v (by simp) h3
      exact ⟨j :: q', i, by rw [e]; rfl, ⟨h1, h2, e1⟩, e2, e3⟩
theorem rb_rep {x : Nat} {p : List Nat} (hp : p ≠ []) (hw : rb_W F T m x x p) (hr : rb_r w p = 0) :
    ∀ k, ∃ q, rb_W F T m x x q ∧ rb_r w q = 0 ∧ k ≤ q.length := by
  intro k
  induction k with
  | zero => exact ⟨[], rfl, rfl, Nat.zero_le _⟩
  | succ k ih =>
    obtain ⟨q, h1, h2, h3⟩ := ih
    refine ⟨q ++ p, (rb_W_app q p x x).mpr ⟨x, h1, hw⟩, by rw [rb_r_app]; omega, ?_⟩
    have := List.length_pos_iff.mpr hp
    rw [List.length_append]
    omega
theorem rb_long (hF : ∀ i, i < m → F i < n) (hT : ∀ i, i < m → T i < n) (hS : ¬ rb_S F T w m) (k : Nat) : ∃ u v q, u < n ∧ v < n ∧ rb_W F T m u v q ∧ rb_r w q = 0 ∧ q.length = k := by
  have hex : ∃ (x : Nat) (p : List Nat), p ≠ [] ∧ rb_W F T m x x p ∧ rb_r w p = 0 := by
    refine Classical.byContradiction fun hc => hS fun x p hp hw => ?_
    rcases Nat.eq_zero_or_pos (rb_r w p) with h0 | h0
    · exact absurd ⟨x, p, hp, hw, h0⟩ hc
    · exact h0
  obtain ⟨x, p, hp, hw, hr⟩ := hex
  have hx := rb_W_start hF hp hw
  obtain ⟨q, h1, h2, h3⟩ := rb_rep hp hw hr k
  have e : q.take (q.length - k) ++ q.drop (q.length - k) = q := List.take_append_drop _ q
  rw [← e] at h1 h2
  obtain ⟨y, g1, g2⟩ := (rb_W_app _ _ x x).mp h1
  rw [rb_r_app] at h2
  refine ⟨y, x, q.drop (q.length - k), rb_W_end hT _ x y hx g1, hx, g2, by omega, ?_⟩
  rw [List.length_drop]
  omega
/-- within a round that began with L0, the wires before j are done -/
def rb_Sr (F T w : Nat → Nat) (m n j : Nat) (L0 L : Nat → Nat) : Prop :=
  (∀ x, L0 x ≤ L x) ∧ (∀ v, v < n → ∃ u q, u < n ∧ rb_W F T m u v q ∧ rb_r w q = 0 ∧ q.length = L v) ∧ ∀ i, i < j → w i = 0 → L0 (F i) + 1 ≤ L (T i)
/-- after r rounds -/
def rb_Sh (F T w : Nat → Nat) (m n r : Nat) (L : Nat → Nat) : Prop :=
  (∀ v, v < n → ∃ u q, u < n ∧ rb_W F T m u v q ∧ rb_r w q = 0 ∧ q.length = L v) ∧ ∀ u v q, u < n → rb_W F T m u v q → rb_r w q = 0 → q.length = r → r ≤ L v
theorem rb_Sh_step {r : Nat} {L0 L : Nat → Nat} (h0 : rb_Sh F T w m n r L0) (h : rb_Sr F T w m n m L0 L) : rb_Sh F T w m n (r + 1) L := by
  refine ⟨h.2.1, fun u v q hu hq hr hl => ?_⟩
  have hq0 : q ≠ [] := by intro e; rw [e] at hl; simp at hl
  obtain ⟨q', i, e, g1, g2, g3⟩ := rb_W_snoc q u v hq0 hq
  rw [e, rb_r_app] at hr
  simp only [rb_r] at hr
  rw [e, List.length_append] at hl
  simp only [List.length_cons, List.length_nil] at hl
  have k1 := h0.2 u (F i) q' hu g1 (by omega) (by omega)
  have k2 := h.2.2 i g2 (by omega)
  rw [g3] at k2
  omega
def rb_Lg (n : Nat) (ln : Nat → Int32) (L : Nat → Nat) : Prop := ∀ x, x < n → ln x = nI (L x)
theorem rb_Lg_set {L : Nat → Nat} {k y : Nat} (h : rb_Lg n ln L) : rb_Lg n (upd ln k (nI y)) (fun x => if x = k then y else L x) := by
  intro x hx
  show (if x = k then nI y else ln x) = nI (if x = k then y else L x)
  by_cases e : x = k
  · rw [if_pos e, if_pos e]
  · rw [if_neg e, if_neg e]; exact h x hx
theorem rb_Y_37 {post : Int32 → SY → Prop} {J : Int32 → (Nat → Int32) → (Nat → Int32) → (Nat → Int32) → (Nat → Int32) → (Nat → Int32) → (Nat → Int32) → (Nat → Int32) → (Nat → Int32) → Prop}
    (hC : rb_C F T d m n) (hcap : ∀ i, i < m → w i < 1000) {L0 : Nat → Nat} {B r : Nat} (hB : B < 1000) {fn : Int32}
    (hJ : ∀ L ln', rb_Sr F T w m n m L0 L → (∀ x, L x ≤ B + 12) → rb_Lg n ln' L → J (nI (r + 1)) de (rb_A F) (rb_A T) (rb_A w) lg ln' pl re) :
    ∀ (N j : Nat) (L : Nat → Nat) (ln : Nat → Int32), m - j < N → j ≤ m → rb_Sr F T w m n j L0 L → (∀ x, L x ≤ B + j) → rb_Lg n ln L →
    wY_sound_37 post J (nI r) fn (nI m) kn bp N (nI j) de (rb_A F) (rb_A T) (rb_A w) lg ln pl re := by
  obtain ⟨hn1, hn5, hm12, hF, hT, hd⟩ := hC
  intro N
  induction N with
  | zero => intro j L ln hN; omega
  | succ N ih =>
    intro j L ln hN hj hR hb hL
    by_cases hjm : j = m
    · subst hjm
      refine br_t (nI_le (by omega) (by omega)) ?_
      intro x ex
      rw [nI_1] at ex
      subst ex
      exact hJ L ln hR (fun x => by have := hb x; omega) hL
    · have hjm : j < m := by omega
      have f5 := hF j hjm
      have t5 := hT j hjm
      have hw := hcap j hjm
      have ij : vp_in (nI j) 12 := vp_in_nI (by omega) (by omega)
      have iF : vp_in (nI (F j)) 5 := vp_in_nI (by omega) (by omega)
      have iT : vp_in (nI (T j)) 5 := vp_in_nI (by omega) (by omega)
      have hnext : ∀ L' ln', rb_Sr F T w m n (j + 1) L0 L' → (∀ x, L' x ≤ B + (j + 1)) → rb_Lg n ln' L' →
          ∀ x, x = nI j + 1 → wY_sound_37 post J (nI r) fn (nI m) kn bp N x de (rb_A F) (rb_A T) (rb_A w) lg ln' pl re := by
        intro L' ln' h1 h2 h3 x ex
        rw [nI_1] at ex
        subst ex
        exact ih (j + 1) L' ln' (by omega) (by omega) h1 h2 h3
      have hbu : ∀ x, L x ≤ B + (j + 1) := fun x => by have := hb x; omega
      have bF := hb (F j)
      have bT := hb (T j)
      refine br_f (nI_ge (by omega) (by omega)) ?_
      rw [nI_clamp (n := j) (by omega)]
      refine ⟨ij, pk_eq (w j) 0 (fun hz => ?_) (fun hz => ?_)⟩
      · show vp_in (nI j) 12 ∧ vp_in (nI (T j)) 5 ∧ vp_in (nI j) 12 ∧ vp_in (nI (F j)) 5 ∧ _
        refine ⟨ij, iT, ij, iF, ?_⟩
        show ((ln (nI (F j)).toNatClampNeg < ln (nI (T j)).toNatClampNeg → _) ∧ (¬ ln (nI (F j)).toNatClampNeg < ln (nI (T j)).toNatClampNeg → vp_in (nI j) 12 ∧ vp_in (nI j) 12 ∧ vp_in (nI (F j)) 5 ∧ vp_in (nI (T j)) 5 ∧
          ∀ y, y = upd ln (nI (T j)).toNatClampNeg (ln (nI (F j)).toNatClampNeg + 1) → _))
        rw [nI_clamp (n := F j) (by omega), nI_clamp (n := T j) (by omega), hL (F j) f5, hL (T j) t5]
        refine pk_lt (L (F j)) (L (T j)) (fun hlt => ?_) (fun hge => ?_)
        · refine hnext L ln ⟨hR.1, hR.2.1, fun i hi hzi => ?_⟩ hbu hL
          by_cases e : i = j
          · rw [e]
            have := hR.1 (F j)
            omega
          · exact hR.2.2 i (by omega) hzi
        · refine ⟨ij, ij, iF, iT, fun y ey => ?_⟩
          rw [nI_1] at ey
          subst ey
          refine hnext _ _ ⟨fun x => ?_, fun v hv => ?_, fun i hi hzi => ?_⟩ (fun x => ?_) (rb_Lg_set (y := L (F j) + 1) hL)
          · show L0 x ≤ if x = T j then L (F j) + 1 else L x
            have := hR.1 x
            by_cases e : x = T j
            · rw [if_pos e]; rw [e] at this ⊢; omega
            · rw [if_neg e]; exact this
          · show ∃ u q, u < n ∧ rb_W F T m u v q ∧ rb_r w q = 0 ∧ q.length = if v = T j then L (F j) + 1 else L v
            by_cases e : v = T j
            · rw [if_pos e]
              obtain ⟨u, q, g1, g2, g3, g4⟩ := hR.2.1 (F j) f5
              refine ⟨u, q ++ [j], g1, (rb_W_app q [j] u v).mpr ⟨F j, g2, hjm, rfl, e.symm⟩, ?_, ?_⟩
              · rw [rb_r_app]; simp only [rb_r]; omega
              · rw [List.length_append]; simp only [List.length_cons, List.length_nil]; omega
            · rw [if_neg e]; exact hR.2.1 v hv
          · show L0 (F i) + 1 ≤ if T i = T j then L (F j) + 1 else L (T i)
            by_cases e : i = j
            · rw [e, if_pos rfl]
              have := hR.1 (F j)
              omega
            · have h1 := hR.2.2 i (by omega) hzi
              by_cases e' : T i = T j
              · rw [if_pos e']; rw [e'] at h1; omega
              · rw [if_neg e']; exact h1
          · show (if x = T j then L (F j) + 1 else L x) ≤ B + (j + 1)
            have := hb x
            split <;> omega
      · refine hnext L ln ⟨hR.1, hR.2.1, fun i hi hzi => ?_⟩ hbu hL
        by_cases e : i = j
        · rw [e] at hzi; exact absurd hzi hz
        · exact hR.2.2 i (by omega) hzi
theorem rb_Y_29 {post : Int32 → SY → Prop} (hC : rb_C F T d m n) (hcap : ∀ i, i < m → w i < 1000) {fn : Int32}
    (h : ∀ L ln', rb_Sh F T w m n 6 L → (∀ x, L x ≤ 72) → rb_Lg n ln' L → ∃ N', wY_sound_117 post fn (nI m) kn bp de (rb_A F) (rb_A T) (rb_A w) lg ln' pl re N' 0) :
    ∀ (N r : Nat) (L : Nat → Nat) (ln : Nat → Int32), 6 - r < N → r ≤ 6 → rb_Sh F T w m n r L → (∀ x, L x ≤ 12 * r) → rb_Lg n ln L →
    wY_sound_29 post fn (nI m) kn bp N (nI r) de (rb_A F) (rb_A T) (rb_A w) lg ln pl re := by
  intro N
  induction N with
  | zero => intro r L ln hN; omega
  | succ N ih =>
    intro r L ln hN hr hI hb hL
    by_cases h6 : r = 6
    · subst h6
      exact br_t (nI_le (a := 6) (by omega) (by omega)) (h L ln hI (fun x => by have := hb x; omega) hL)
    · refine br_f (nI_ge (b := 6) (by omega) (by omega)) ⟨m + 1, ?_⟩
      refine rb_Y_37 hC hcap (L0 := L) (B := 12 * r) (by omega) (fun L' ln' h1 h2 h3 => ?_) (m + 1) 0 L ln (by omega) (by omega) ⟨fun _ => Nat.le_refl _, hI.1, fun i hi => by omega⟩ (fun x => by have := hb x; omega) hL
      exact ih (r + 1) L' ln' (by omega) (by omega) (rb_Sh_step hI h1) (fun x => by have := h2 x; omega) h3
theorem rb_Y_117 {post : Int32 → SY → Prop} (hn5 : n ≤ 5) {L : Nat → Nat} (hb : ∀ x, L x ≤ 72) (hL : rb_Lg n ln L) {fm : Int32}
    (h1 : (∀ x, x < n → L x < n) → post 1 (nI n, fm, kn, bp, de, fr, to, rg, lg, ln, pl, re)) (h0 : (∃ x, x < n ∧ n ≤ L x) → post 0 (nI n, fm, kn, bp, de, fr, to, rg, lg, ln, pl, re)) :
    ∀ (N v : Nat), n - v < N → v ≤ n → (∀ x, x < v → L x < n) → wY_sound_117 post (nI n) fm kn bp de fr to rg lg ln pl re N (nI v) := by
  intro N
  induction N with
  | zero => intro v hN; omega
  | succ N ih =>
    intro v hN hv hI
    by_cases hvn : v = n
    · subst hvn
      exact br_t (nI_le (by omega) (by omega)) (h1 hI)
    · refine br_f (nI_ge (by omega) (by omega)) ?_
      have := hb v
      rw [nI_clamp (n := v) (by omega), hL v (by omega)]
      refine ⟨vp_in_nI (by omega) (by omega), pk_lt (L v) n (fun hlt => ?_) (fun hge => ?_)⟩
      · intro x ex
        rw [nI_1] at ex
        subst ex
        refine ih (v + 1) (by omega) (by omega) (fun x hx => ?_)
        by_cases e : x = v
        · rw [e]; exact hlt
        · exact hI x (by omega)
      · exact h0 ⟨v, by omega, hge⟩
theorem rb_Y_6 {post : Int32 → SY → Prop} (hn5 : n ≤ 5) {fm : Int32}
    (h : ∀ ln', rb_Lg n ln' (fun _ => 0) → ∃ N', wY_sound_29 post (nI n) fm kn bp N' 0 de fr to rg lg ln' pl re) :
    ∀ (N v : Nat) (ln : Nat → Int32), n - v < N → v ≤ n → (∀ x, x < v → ln x = 0) → wY_sound_6 post (nI n) fm kn bp N (nI v) de fr to rg lg ln pl re := by
  intro N
  induction N with
  | zero => intro v ln hN; omega
  | succ N ih =>
    intro v ln hN hv hI
    by_cases hvn : v = n
    · subst hvn
      exact br_t (nI_le (by omega) (by omega)) (h ln (fun x hx => hI x hx))
    · refine br_f (nI_ge (by omega) (by omega)) ?_
      rw [nI_clamp (n := v) (by omega)]
      refine ⟨vp_in_nI (by omega) (by omega), fun y ey x ex => ?_⟩
      rw [nI_1] at ex
      subst ex; subst ey
      refine ih (v + 1) _ (by omega) (by omega) (fun x hx => ?_)
      by_cases e : x = v
      · rw [e, pk_us]
      · rw [pk_un e]; exact hI x (by omega)
theorem rb_Y_sound {post : Int32 → SY → Prop} (hC : rb_C F T d m n) (hcap : ∀ i, i < m → w i < 1000)
    (h1 : rb_S F T w m → ∀ lg' ln', rb_La lg' (fun _ => 0) → post 1 (nI n, nI m, kn, bp, de, rb_A F, rb_A T, rb_A w, lg', ln', pl, re))
    (h0 : ¬ rb_S F T w m → ∀ lg' ln', post 0 (nI n, nI m, kn, bp, de, rb_A F, rb_A T, rb_A w, lg', ln', pl, re)) :
    wpY_sound post (nI n, nI m, kn, bp, de, rb_A F, rb_A T, rb_A w, lg, ln, pl, re) := by
  have hC' := hC
  obtain ⟨hn1, hn5, hm12, hF, hT, hd⟩ := hC'
  refine rb_Y_noLags ?_
  intro lg' hlg
  refine ⟨n + 1, rb_Y_6 hn5 (fun ln1 hl1 => ⟨7, ?_⟩) (n + 1) 0 ln (by omega) (by omega) (fun x hx => by omega)⟩
  refine rb_Y_29 hC hcap (fun L ln2 hI hb hL => ⟨n + 1, ?_⟩) 7 0 (fun _ => 0) ln1 (by omega) (by omega) ⟨fun v hv => ⟨v, [], hv, rfl, rfl, rfl⟩, fun _ _ _ _ _ _ _ => Nat.zero_le _⟩ (fun _ => Nat.zero_le _) hl1
  refine rb_Y_117 hn5 hb hL (fun hall => h1 ?_ lg' ln2 hlg) (fun hex => h0 ?_ lg' ln2) (n + 1) 0 (by omega) (by omega) (fun x hx => by omega)
  · refine Classical.byContradiction fun hS => ?_
    obtain ⟨u, v, q, hu, hv, hq, hr, hl⟩ := rb_long hF hT hS 6
    have := hI.2 u v q hu hq hr hl
    have := hall v hv
    omega
  · intro hS
    obtain ⟨x, hx, hge⟩ := hex
    obtain ⟨u, q, hu, hq, hr, hl⟩ := hI.1 x hx
    have := rb_len0 hF hT hS hu hq hr
    omega
end
end
section
/-! the reference's under, legal, longest -/
theorem rb_un_T {a b c : Nat} (ha : a < 2 ^ 20) (hb : b < 2 ^ 20) (hc : c < 2 ^ 20) : (nI a + -nI b - -nI c).toInt = (a : Int) - b + c := by
  have h1 : (nI a).toInt = (a : Int) := nI_toInt (by omega)
  have h2 : (-nI b).toInt = -(b : Int) := sb_negT (by omega)
  have h3 : (-nI c).toInt = -(c : Int) := sb_negT (by omega)
  have h4 : (nI a + -nI b).toInt = (a : Int) - b := by rw [rb_add_T] <;> rw [h1, h2] <;> omega
  rw [rb_sub_T] <;> rw [h4, h3] <;> omega
theorem rb_un_0 {a b c : Nat} (ha : a < 2 ^ 20) (hb : b < 2 ^ 20) (hc : c < 2 ^ 20) : nI a + -nI b - -nI c = 0 ↔ a + c = b := by
  have h0 : (0 : Int32).toInt = 0 := by decide
  rw [← Int32.toInt_inj, rb_un_T ha hb hc, h0]
  omega
theorem rb_un_le {a b c : Nat} (ha : a < 2 ^ 20) (hb : b < 2 ^ 20) (hc : c < 2 ^ 20) : 0 ≤ nI a + -nI b - -nI c ↔ b ≤ a + c := by
  have h0 : (0 : Int32).toInt = 0 := by decide
  rw [Int32.le_iff_toInt_le, rb_un_T ha hb hc, h0]
  omega
section
variable {F T w d t : Nat → Nat} {m n : Nat} {fn kn bp : Int32} {de lg ln pl re : Nat → Int32}
theorem rb_Y_under {post : Int32 → Prop} (hC : rb_C F T d m n) (hla : rb_La lg t) {j : Nat} (hj : j < m)
    (h : post (nI (w j) + -nI (t (T j)) - -nI (t (F j)))) : wpY_under post (fn, nI m, kn, bp, de, rb_A F, rb_A T, rb_A w, lg, ln, pl, re) (nI j) := by
  obtain ⟨hn1, hn5, hm12, hF, hT, hd⟩ := hC
  have f5 := hF j hj
  have t5 := hT j hj
  have ij : vp_in (nI j) 12 := vp_in_nI (by omega) (by omega)
  have iF : vp_in (nI (F j)) 5 := vp_in_nI (by omega) (by omega)
  have iT : vp_in (nI (T j)) 5 := vp_in_nI (by omega) (by omega)
  have ej : (nI j).toNatClampNeg = j := nI_clamp (by omega)
  have eF : (nI (F j)).toNatClampNeg = F j := nI_clamp (by omega)
  have eT : (nI (T j)).toNatClampNeg = T j := nI_clamp (by omega)
  unfold wpY_under
  dsimp only
  rw [ej]
  show vp_in (nI j) 12 ∧ vp_in (nI j) 12 ∧ vp_in (nI (T j)) 5 ∧ vp_in (nI j) 12 ∧ vp_in (nI (F j)) 5 ∧ post (nI (w j) + lg (nI (T j)).toNatClampNeg - lg (nI (F j)).toNatClampNeg)
  rw [eF, eT, hla (T j) (by omega), hla (F j) (by omega)]
  exact ⟨ij, ij, iT, ij, iF, h⟩
theorem rb_Y_legal {post : Int32 → Prop} (hC : rb_C F T d m n) (hcap : ∀ i, i < m → w i < 1000) (hla : rb_La lg t) (ht : ∀ x, t x ≤ 4)
    (h1 : rb_L F T w m t → post 1) (h0 : ¬ rb_L F T w m t → post 0) : wpY_legal post (fn, nI m, kn, bp, de, rb_A F, rb_A T, rb_A w, lg, ln, pl, re) := by
  have hm12 := hC.2.2.1
  have key : ∀ (N j : Nat), m - j < N → j ≤ m → (∀ i, i < j → t (T i) ≤ w i + t (F i)) → wY_legal_2 post fn (nI m) kn bp de (rb_A F) (rb_A T) (rb_A w) lg ln pl re N (nI j) := by
    intro N
    induction N with
    | zero => intro j hN; omega
    | succ N ih =>
      intro j hN hj hI
      by_cases hjm : j = m
      · subst hjm
        exact br_t (nI_le (by omega) (by omega)) (h1 hI)
      · have hjm : j < m := by omega
        have hw := hcap j hjm
        have b1 := ht (T j)
        have b2 := ht (F j)
        refine br_f (nI_ge (by omega) (by omega)) (rb_Y_under hC hla hjm ?_)
        refine ek_if (rb_un_le (by omega) (by omega) (by omega)) (fun hle => ?_) (fun hgt => ?_)
        · intro x ex
          rw [nI_1] at ex
          subst ex
          refine ih (j + 1) (by omega) (by omega) (fun i hi => ?_)
          by_cases e : i = j
          · rw [e]; exact hle
          · exact hI i (by omega)
        · exact h0 (fun hl => hgt (hl j hjm))
  exact ⟨m + 1, key (m + 1) 0 (by omega) (by omega) (fun i hi => by omega)⟩
/-- a run without registers under t has no block twice -/
theorem rb_len_t (hF : ∀ i, i < m → F i < n) (hT : ∀ i, i < m → T i < n) (hS : rb_S F T w m) (hl : rb_L F T w m t) {u v : Nat} {q : List Nat} (hu : u < n)
    (h : rb_W F T m u v q) (hr : rb_r w q + t u = t v) : q.length + 1 ≤ n := by
  rcases rb_cyc hF hT hu h with h1 | ⟨l1, l2, l3, x, e, hn, hx⟩
  · exact h1
  · have h2 := hS x l2 hn hx
    rw [e] at h hr
    rw [rb_r_app, rb_r_app] at hr
    obtain ⟨y, g1, g2⟩ := (rb_W_app l1 _ u v).mp h
    obtain ⟨z, g3, g4⟩ := (rb_W_app l2 l3 y v).mp g2
    have k1 := rb_Lw hl l1 u y g1
    have k2 := rb_Lw hl l3 z v g4
    have k3 : y = x ∧ z = x := by
      cases l2 with
      | nil => exact absurd rfl hn
      | cons a l =>
        have e1 : F a = y := g3.2.1
        have e2 : F a = x := hx.2.1
        have key : ∀ (l : List Nat) (a b c : Nat), rb_W F T m a b l → rb_W F T m a c l → b = c := by
          intro l
          induction l with
          | nil => intro a b c h1 h2; exact (show a = b from h1).symm.trans h2
          | cons i l ih => intro a b c h1 h2; exact ih _ b c h1.2.2 h2.2.2
        exact ⟨e1.symm.trans e2, key l _ z x g3.2.2 hx.2.2⟩
    rw [k3.1] at k1
    rw [k3.2] at k2
    omega
/-- within a round of longest that began with L0 -/
def rb_Qr (F T w d t : Nat → Nat) (m n j : Nat) (L0 L : Nat → Nat) : Prop :=
  (∀ x, L0 x ≤ L x) ∧ (∀ v, v < n → ∃ u q, u < n ∧ rb_W F T m u v q ∧ rb_r w q + t u = t v ∧ d u + rb_r (fun i => d (T i)) q = L v) ∧
  ∀ i, i < j → w i + t (F i) = t (T i) → L0 (F i) + d (T i) ≤ L (T i)
def rb_Qh (F T w d t : Nat → Nat) (m n r : Nat) (L : Nat → Nat) : Prop :=
  (∀ v, v < n → d v ≤ L v) ∧ (∀ v, v < n → ∃ u q, u < n ∧ rb_W F T m u v q ∧ rb_r w q + t u = t v ∧ d u + rb_r (fun i => d (T i)) q = L v) ∧
  ∀ u v q, u < n → rb_W F T m u v q → rb_r w q + t u = t v → q.length ≤ r → d u + rb_r (fun i => d (T i)) q ≤ L v
theorem rb_Qh_step {r : Nat} {L0 L : Nat → Nat} (hl : rb_L F T w m t) (h0 : rb_Qh F T w d t m n r L0) (h : rb_Qr F T w d t m n m L0 L) : rb_Qh F T w d t m n (r + 1) L := by
  refine ⟨fun v hv => Nat.le_trans (h0.1 v hv) (h.1 v), h.2.1, fun u v q hu hq hr hlen => ?_⟩
  by_cases hq0 : q = []
  · subst hq0
    have e : u = v := hq
    subst e
    have := h0.1 u hu
    have := h.1 u
    simp only [rb_r]
    omega
  · obtain ⟨q', i, e, g1, g2, g3⟩ := rb_W_snoc q u v hq0 hq
    rw [e, rb_r_app] at hr ⊢
    simp only [rb_r] at hr ⊢
    rw [e, List.length_append] at hlen
    simp only [List.length_cons, List.length_nil] at hlen
    have k0 := rb_Lw hl q' u (F i) g1
    have k1 := hl i g2
    rw [g3] at k1 ⊢
    have k2 := h0.2.2 u (F i) q' hu g1 (by omega) (by omega)
    have k3 := h.2.2 i g2 (by rw [g3]; omega)
    rw [g3] at k3
    omega
theorem rb_Q_b (hC : rb_C F T d m n) (hS : rb_S F T w m) (hl : rb_L F T w m t) {u v D : Nat} {q : List Nat} (hu : u < n)
    (h : rb_W F T m u v q) (hr : rb_r w q + t u = t v) (hD : d u + rb_r (fun i => d (T i)) q = D) : D ≤ 45 := by
  obtain ⟨hn1, hn5, hm12, hF, hT, hd⟩ := hC
  have h1 := rb_len_t hF hT hS hl hu h hr
  have h2 := rb_dl (T := T) hd q
  have h3 := hd u
  omega
theorem rb_Y_l37 {post : Int32 → SY → Prop} {J : Int32 → (Nat → Int32) → (Nat → Int32) → (Nat → Int32) → (Nat → Int32) → (Nat → Int32) → (Nat → Int32) → (Nat → Int32) → (Nat → Int32) → Prop}
    (hC : rb_C F T d m n) (hcap : ∀ i, i < m → w i < 1000) (hS : rb_S F T w m) (hl : rb_L F T w m t) (hla : rb_La lg t) (ht : ∀ x, t x ≤ 4) {L0 : Nat → Nat} {r : Nat}
    (hJ : ∀ L ln', rb_Qr F T w d t m n m L0 L → rb_Lg n ln' L → J (nI (r + 1)) (rb_A d) (rb_A F) (rb_A T) (rb_A w) lg ln' pl re) :
    ∀ (N j : Nat) (L : Nat → Nat) (ln : Nat → Int32), m - j < N → j ≤ m → rb_Qr F T w d t m n j L0 L → rb_Lg n ln L →
    wY_longest_37 post J (nI r) fn (nI m) kn bp N (nI j) (rb_A d) (rb_A F) (rb_A T) (rb_A w) lg ln pl re := by
  have hC' := hC
  obtain ⟨hn1, hn5, hm12, hF, hT, hd⟩ := hC'
  intro N
  induction N with
  | zero => intro j L ln hN; omega
  | succ N ih =>
    intro j L ln hN hj hR hL
    by_cases hjm : j = m
    · subst hjm
      refine br_t (nI_le (by omega) (by omega)) ?_
      intro x ex
      rw [nI_1] at ex
      subst ex
      exact hJ L ln hR hL
    · have hjm : j < m := by omega
      have f5 := hF j hjm
      have t5 := hT j hjm
      have hw := hcap j hjm
      have ij : vp_in (nI j) 12 := vp_in_nI (by omega) (by omega)
      have iF : vp_in (nI (F j)) 5 := vp_in_nI (by omega) (by omega)
      have iT : vp_in (nI (T j)) 5 := vp_in_nI (by omega) (by omega)
      have hnext : ∀ L' ln', rb_Qr F T w d t m n (j + 1) L0 L' → rb_Lg n ln' L' →
          ∀ x, x = nI j + 1 → wY_longest_37 post J (nI r) fn (nI m) kn bp N x (rb_A d) (rb_A F) (rb_A T) (rb_A w) lg ln' pl re := by
        intro L' ln' h1 h2 x ex
        rw [nI_1] at ex
        subst ex
        exact ih (j + 1) L' ln' (by omega) (by omega) h1 h2
      have bF : L (F j) ≤ 45 := by
        obtain ⟨u, q, g1, g2, g3, g4⟩ := hR.2.1 (F j) f5
        exact rb_Q_b hC hS hl g1 g2 g3 g4
      have bT : L (T j) ≤ 45 := by
        obtain ⟨u, q, g1, g2, g3, g4⟩ := hR.2.1 (T j) t5
        exact rb_Q_b hC hS hl g1 g2 g3 g4
      have hdT := hd (T j)
      refine br_f (nI_ge (by omega) (by omega)) ?_
      rw [nI_clamp (n := j) (by omega)]
      refine ⟨ij, iF, ij, iT, fun x3 e3 => ?_⟩
      have g3 : x3 = nI (L (F j) + d (T j)) := by
        rw [e3]
        show ln (nI (F j)).toNatClampNeg + nI (d (nI (T j)).toNatClampNeg) = _
        rw [nI_clamp (n := F j) (by omega), nI_clamp (n := T j) (by omega), hL (F j) f5, nI_add]
      clear e3
      subst g3
      refine rb_Y_under hC hla hjm ?_
      have b1 := ht (T j)
      have b2 := ht (F j)
      refine ek_if (rb_un_0 (by omega) (by omega) (by omega)) (fun hz => ?_) (fun hz => ?_)
      · refine ⟨ij, iT, ?_⟩
        have eT : (rb_A T j).toNatClampNeg = T j := nI_clamp (by omega)
        rw [eT, hL (T j) t5]
        refine pk_le (L (F j) + d (T j)) (L (T j)) (fun hle => ?_) (fun hgt => ⟨ij, iT, fun y ey => ?_⟩)
        · refine hnext L ln ⟨hR.1, hR.2.1, fun i hi hzi => ?_⟩ hL
          by_cases e : i = j
          · rw [e]
            have := hR.1 (F j)
            omega
          · exact hR.2.2 i (by omega) hzi
        · subst ey
          refine hnext _ _ ⟨fun x => ?_, fun v hv => ?_, fun i hi hzi => ?_⟩ (rb_Lg_set (y := L (F j) + d (T j)) hL)
          · show L0 x ≤ if x = T j then L (F j) + d (T j) else L x
            have := hR.1 x
            by_cases e : x = T j
            · rw [if_pos e]; rw [e] at this ⊢; omega
            · rw [if_neg e]; exact this
          · show ∃ u q, u < n ∧ rb_W F T m u v q ∧ rb_r w q + t u = t v ∧ d u + rb_r (fun i => d (T i)) q = if v = T j then L (F j) + d (T j) else L v
            by_cases e : v = T j
            · rw [if_pos e]
              obtain ⟨u, q, g1, g2, g3, g4⟩ := hR.2.1 (F j) f5
              refine ⟨u, q ++ [j], g1, (rb_W_app q [j] u v).mpr ⟨F j, g2, hjm, rfl, e.symm⟩, ?_, ?_⟩
              · rw [rb_r_app, e]; simp only [rb_r]; omega
              · rw [rb_r_app]; simp only [rb_r]; omega
            · rw [if_neg e]; exact hR.2.1 v hv
          · show L0 (F i) + d (T i) ≤ if T i = T j then L (F j) + d (T j) else L (T i)
            by_cases e : i = j
            · rw [e, if_pos rfl]
              have := hR.1 (F j)
              omega
            · have h1 := hR.2.2 i (by omega) hzi
              by_cases e' : T i = T j
              · rw [if_pos e']; rw [e'] at h1 ⊢; omega
              · rw [if_neg e']; exact h1
      · refine hnext L ln ⟨hR.1, hR.2.1, fun i hi hzi => ?_⟩ hL
        by_cases e : i = j
        · rw [e] at hzi; exact absurd hzi hz
        · exact hR.2.2 i (by omega) hzi
theorem rb_Y_l30 {post : Int32 → SY → Prop} (hC : rb_C F T d m n) (hcap : ∀ i, i < m → w i < 1000) (hS : rb_S F T w m) (hl : rb_L F T w m t) (hla : rb_La lg t) (ht : ∀ x, t x ≤ 4)
    (h : ∀ L ln', rb_Qh F T w d t m n 5 L → rb_Lg n ln' L → ∃ N', wY_longest_120 post fn (nI m) kn bp (rb_A d) (rb_A F) (rb_A T) (rb_A w) lg ln' pl re N' 0 0) :
    ∀ (N r : Nat) (L : Nat → Nat) (ln : Nat → Int32), 5 - r < N → r ≤ 5 → rb_Qh F T w d t m n r L → rb_Lg n ln L →
    wY_longest_30 post fn (nI m) kn bp N (nI r) (rb_A d) (rb_A F) (rb_A T) (rb_A w) lg ln pl re := by
  intro N
  induction N with
  | zero => intro r L ln hN; omega
  | succ N ih =>
    intro r L ln hN hr hI hL
    by_cases h5 : r = 5
    · subst h5
      exact br_t (nI_le (a := 5) (by omega) (by omega)) (h L ln hI hL)
    · refine br_f (nI_ge (b := 5) (by omega) (by omega)) ⟨m + 1, ?_⟩
      refine rb_Y_l37 hC hcap hS hl hla ht (L0 := L) (fun L' ln' h1 h2 => ?_) (m + 1) 0 L ln (by omega) (by omega) ⟨fun _ => Nat.le_refl _, hI.2.1, fun i hi => by omega⟩ hL
      exact ih (r + 1) L' ln' (by omega) (by omega) (rb_Qh_step hl hI h1) h2
theorem rb_Y_l120 {post : Int32 → SY → Prop} {fm : Int32} {fr to rg : Nat → Int32} (hn1 : 1 ≤ n) (hn5 : n ≤ 5) {L : Nat → Nat} (hb : ∀ x, x < n → L x ≤ 45) (hL : rb_Lg n ln L)
    (h : ∀ P, (∀ x, x < n → L x ≤ P) → (∃ x, x < n ∧ L x = P) → post (nI P) (nI n, fm, kn, bp, de, fr, to, rg, lg, ln, pl, re)) :
    ∀ (N v P : Nat), n - v < N → v ≤ n → (∀ x, x < v → L x ≤ P) → (P = 0 ∨ ∃ x, x < v ∧ L x = P) →
    wY_longest_120 post (nI n) fm kn bp de fr to rg lg ln pl re N (nI P) (nI v) := by
  intro N
  induction N with
  | zero => intro v P hN; omega
  | succ N ih =>
    intro v P hN hv h1 h2
    have hP : P ≤ 45 := by
      rcases h2 with h2 | ⟨x, hx, h2⟩
      · omega
      · have := hb x (by omega); omega
    by_cases hvn : v = n
    · subst hvn
      refine br_t (nI_le (by omega) (by omega)) (h P h1 ?_)
      rcases h2 with h2 | h2
      · refine ⟨0, by omega, ?_⟩
        have := h1 0 (by omega)
        omega
      · exact h2
    · refine br_f (nI_ge (by omega) (by omega)) ?_
      have hLv := hb v (by omega)
      have iv : vp_in (nI v) 5 := vp_in_nI (by omega) (by omega)
      rw [nI_clamp (n := v) (by omega), hL v (by omega)]
      refine ⟨iv, pk_le (L v) P (fun hle => ?_) (fun hgt => ?_)⟩
      · intro x ex
        rw [nI_1] at ex
        subst ex
        refine ih (v + 1) P (by omega) (by omega) (fun x hx => ?_) ?_
        · by_cases e : x = v
          · rw [e]; exact hle
          · exact h1 x (by omega)
        · rcases h2 with h2 | ⟨x, hx, h2⟩
          · exact Or.inl h2
          · exact Or.inr ⟨x, by omega, h2⟩
      · refine ⟨iv, fun y ey x ex => ?_⟩
        rw [nI_1] at ex
        subst ex; subst ey
        refine ih (v + 1) (L v) (by omega) (by omega) (fun x hx => ?_) (Or.inr ⟨v, by omega, rfl⟩)
        by_cases e : x = v
        · rw [e]; exact Nat.le_refl _
        · have := h1 x (by omega)
          omega
theorem rb_Y_l2 {post : Int32 → SY → Prop} {fm : Int32} {fr to rg : Nat → Int32} (hn5 : n ≤ 5)
    (h : ∀ ln', rb_Lg n ln' d → ∃ N', wY_longest_30 post (nI n) fm kn bp N' 0 (rb_A d) fr to rg lg ln' pl re) :
    ∀ (N v : Nat) (ln : Nat → Int32), n - v < N → v ≤ n → (∀ x, x < v → ln x = nI (d x)) → wY_longest_2 post (nI n) fm kn bp N (nI v) (rb_A d) fr to rg lg ln pl re := by
  intro N
  induction N with
  | zero => intro v ln hN; omega
  | succ N ih =>
    intro v ln hN hv hI
    by_cases hvn : v = n
    · subst hvn
      exact br_t (nI_le (by omega) (by omega)) (h ln hI)
    · refine br_f (nI_ge (by omega) (by omega)) ?_
      have iv : vp_in (nI v) 5 := vp_in_nI (by omega) (by omega)
      rw [nI_clamp (n := v) (by omega)]
      refine ⟨iv, iv, fun y ey x ex => ?_⟩
      rw [nI_1] at ex
      subst ex; subst ey
      refine ih (v + 1) _ (by omega) (by omega) (fun x hx => ?_)
      by_cases e : x = v
      · rw [e, pk_us]; rfl
      · rw [pk_un e]; exact hI x (by omega)
theorem rb_Y_longest {post : Int32 → SY → Prop} (hC : rb_C F T d m n) (hcap : ∀ i, i < m → w i < 1000) (hS : rb_S F T w m) (hl : rb_L F T w m t) (hla : rb_La lg t) (ht : ∀ x, t x ≤ 4)
    (h : ∀ P ln', rb_pt F T w d m n t P → P ≤ 45 → post (nI P) (nI n, nI m, kn, bp, rb_A d, rb_A F, rb_A T, rb_A w, lg, ln', pl, re)) :
    wpY_longest post (nI n, nI m, kn, bp, rb_A d, rb_A F, rb_A T, rb_A w, lg, ln, pl, re) := by
  have hC' := hC
  obtain ⟨hn1, hn5, hm12, hF, hT, hd⟩ := hC'
  refine ⟨n + 1, rb_Y_l2 hn5 (fun ln1 hl1 => ⟨6, ?_⟩) (n + 1) 0 ln (by omega) (by omega) (fun x hx => by omega)⟩
  refine rb_Y_l30 hC hcap hS hl hla ht (fun L ln2 hI hL => ⟨n + 1, ?_⟩) 6 0 d ln1 (by omega) (by omega)
    ⟨fun _ _ => Nat.le_refl _, fun v hv => ⟨v, [], hv, rfl, by simp [rb_r], by simp [rb_r]⟩, fun u v q hu hq hr hlen => ?_⟩ hl1
  · have hb : ∀ x, x < n → L x ≤ 45 := by
      intro x hx
      obtain ⟨u, q, g1, g2, g3, g4⟩ := hI.2.1 x hx
      exact rb_Q_b hC hS hl g1 g2 g3 g4
    refine rb_Y_l120 hn1 hn5 hb hL (fun P h1 h2 => h P ln2 ⟨fun u v q hu hq hr => ?_, ?_⟩ ?_) (n + 1) 0 0 (by omega) (by omega) (fun x hx => by omega) (Or.inl rfl)
    · have k1 := rb_len_t hF hT hS hl hu hq hr
      have k2 := hI.2.2 u v q hu hq hr (by omega)
      have k3 := h1 v (rb_W_end hT q u v hu hq)
      omega
    · obtain ⟨x, hx, e⟩ := h2
      obtain ⟨u, q, g1, g2, g3, g4⟩ := hI.2.1 x hx
      exact ⟨u, x, q, g1, g2, g3, by omega⟩
    · obtain ⟨x, hx, e⟩ := h2
      have := hb x hx
      omega
  · have e : q = [] := List.eq_nil_of_length_eq_zero (by omega)
    subst e
    have e : u = v := hq
    subst e
    simp [rb_r]
end
end
section
/-! the reference's writeLags and find -/
def rb_tc (n c x : Nat) : Nat := if x < n then c / 5 ^ x % 5 else 0
theorem rb_tc_le (n c x : Nat) : rb_tc n c x ≤ 4 := by
  unfold rb_tc
  split
  · have := Nat.mod_lt (c / 5 ^ x) (show 5 > 0 by omega)
    omega
  · omega
theorem rb_tc_0 (n : Nat) : rb_tc n 0 = fun _ => 0 := by
  funext x
  unfold rb_tc
  rw [Nat.zero_div]
  split <;> rfl
theorem rb_tc_ex {n : Nat} {t : Nat → Nat} (h1 : 1 ≤ n) (hn : n ≤ 5) (ht : ∀ x, t x ≤ 4) (h0 : ∀ x, n ≤ x → t x = 0) : ∃ c, c < 5 ^ n ∧ rb_tc n c = t := by
  have t0 := ht 0
  have t1 := ht 1
  have t2 := ht 2
  have t3 := ht 3
  have t4 := ht 4
  refine ⟨t 0 + 5 * t 1 + 25 * t 2 + 125 * t 3 + 625 * t 4, ?_, ?_⟩
  · have z1 := h0 1
    have z2 := h0 2
    have z3 := h0 3
    have z4 := h0 4
    rcases (by omega : n = 1 ∨ n = 2 ∨ n = 3 ∨ n = 4 ∨ n = 5) with rfl | rfl | rfl | rfl | rfl
    · have := z1 (by omega); have := z2 (by omega); have := z3 (by omega); have := z4 (by omega)
      omega
    · have := z2 (by omega); have := z3 (by omega); have := z4 (by omega)
      omega
    · have := z3 (by omega); have := z4 (by omega)
      omega
    · have := z4 (by omega)
      omega
    · omega
  · funext x
    unfold rb_tc
    by_cases hx : x < n
    · rw [if_pos hx]
      rcases (by omega : x = 0 ∨ x = 1 ∨ x = 2 ∨ x = 3 ∨ x = 4) with rfl | rfl | rfl | rfl | rfl
      · rw [show 5 ^ 0 = 1 from rfl]; omega
      · rw [show 5 ^ 1 = 5 from rfl]; omega
      · rw [show 5 ^ 2 = 25 from rfl]; omega
      · rw [show 5 ^ 3 = 125 from rfl]; omega
      · rw [show 5 ^ 4 = 625 from rfl]; omega
    · rw [if_neg hx]; exact (h0 x (by omega)).symm
section
variable {F T w d : Nat → Nat} {m n : Nat} {fm kn bp : Int32} {de fr to rg lg ln pl re : Nat → Int32}
theorem rb_Y_wl {post : SY → Prop} (hn5 : n ≤ 5) {c : Nat} (hc : c < 2 ^ 31)
    (h : ∀ lg', rb_La lg' (rb_tc n c) → post (nI n, fm, kn, bp, de, fr, to, rg, lg', ln, pl, re)) :
    ∀ (N v : Nat) (lg : Nat → Int32), 5 - v < N → v ≤ 5 → (∀ x, x < v → lg x = -nI (rb_tc n c x)) →
    wY_writeLags_4 post (nI n) fm kn bp N (nI (c / 5 ^ v)) (nI v) de fr to rg lg ln pl re := by
  intro N
  induction N with
  | zero => intro v lg hN; omega
  | succ N ih =>
    intro v lg hN hv hI
    by_cases h5 : v = 5
    · subst h5
      exact br_t (nI_le (a := 5) (by omega) (by omega)) (h lg hI)
    · have hq : c / 5 ^ v < 2 ^ 31 := Nat.lt_of_le_of_lt (Nat.div_le_self _ _) hc
      have e1 : nI (c / 5 ^ v) / 5 = nI (c / 5 ^ (v + 1)) := by
        rw [Nat.pow_succ, ← Nat.div_div_eq_div_mul]
        exact pk_div (d := 5) hq (by omega) (by omega)
      have e2 : nI (c / 5 ^ v) - nI (c / 5 ^ v) / 5 * 5 = nI (c / 5 ^ v % 5) := pk_rem (d := 5) hq (by omega) (by omega)
      have iv : vp_in (nI v) 5 := vp_in_nI (by omega) (by omega)
      have hnext : ∀ lg' : Nat → Int32, lg' = upd lg v (-nI (rb_tc n c v)) → ∀ x2, x2 = nI (c / 5 ^ v) / 5 → ∀ x3, x3 = nI v + 1 →
          wY_writeLags_4 post (nI n) fm kn bp N x2 x3 de fr to rg lg' ln pl re := by
        intro lg' elg x2 e2 x3 e3
        rw [e1] at e2
        rw [nI_1] at e3
        subst e2; subst e3; subst elg
        refine ih (v + 1) _ (by omega) (by omega) (fun x hx => ?_)
        by_cases e : x = v
        · rw [e, pk_us]
        · rw [pk_un e]; exact hI x (by omega)
      refine br_f (nI_ge (b := 5) (by omega) (by omega)) ?_
      rw [e2, nI_clamp (n := v) (by omega)]
      refine pk_le n v (fun hle => ?_) (fun hgt => ?_)
      · refine ⟨iv, fun y ey => ⟨by decide, hnext y ?_⟩⟩
        have e0 : rb_tc n c v = 0 := if_neg (by omega)
        rw [ey, e0]
        show upd lg v 0 = upd lg v (-nI 0)
        rw [show -nI 0 = (0 : Int32) by decide]
      · refine ⟨by decide, iv, fun y ey => ⟨by decide, hnext y ?_⟩⟩
        have e0 : rb_tc n c v = c / 5 ^ v % 5 := if_pos (by omega)
        rw [ey, e0]
theorem rb_Y_writeLags {post : SY → Prop} (hn5 : n ≤ 5) {c : Nat} (hc : c < 2 ^ 31)
    (h : ∀ lg', rb_La lg' (rb_tc n c) → post (nI n, fm, kn, bp, de, fr, to, rg, lg', ln, pl, re)) :
    wpY_writeLags post (nI n, fm, kn, bp, de, fr, to, rg, lg, ln, pl, re) (nI c) := by
  refine ⟨6, ?_⟩
  have := rb_Y_wl hn5 hc h 6 0 lg (by omega) (by omega) (fun x hx => by omega)
  rw [show c / 5 ^ 0 = c by rw [Nat.pow_zero, Nat.div_one]] at this
  exact this
/-- the plan holds these drops -/
def rb_Ln (n : Nat) (pl : Nat → Int32) (t : Nat → Nat) : Prop := ∀ x, x < n → pl x = -nI (t x)
theorem rb_Ln_set {t : Nat → Nat} {k y : Nat} (h : rb_Ln n pl t) : rb_Ln n (upd pl k (-nI y)) (fun x => if x = k then y else t x) := by
  intro x hx
  show (if x = k then -nI y else pl x) = -nI (if x = k then y else t x)
  by_cases e : x = k
  · rw [if_pos e, if_pos e]
  · rw [if_neg e, if_neg e]; exact h x hx
theorem rb_Y_122b {post : SY → Prop} {J : Int32 → Int32 → Int32 → Int32 → Int32 → (Nat → Int32) → (Nat → Int32) → (Nat → Int32) → (Nat → Int32) → (Nat → Int32) → (Nat → Int32) → (Nat → Int32) → (Nat → Int32) → Prop}
    {x1 x3 x4 : Int32} {c : Nat} {t : Nat → Nat} (hn5 : n ≤ 5) (hla : rb_La lg t) (h4 : ¬ x4 = 0)
    (hJ : ∀ pl', rb_Ln n pl' t → J (nI (c + 1)) (nI n) fm kn bp de fr to rg lg ln pl' re) :
    ∀ (N v : Nat) (pl : Nat → Int32), n - v < N → v ≤ n → (∀ x, x < v → pl x = -nI (t x)) →
    wY_find_122 post J x1 (nI c) x3 x4 (nI n) fm kn bp N (nI v) de fr to rg lg ln pl re := by
  intro N
  induction N with
  | zero => intro v pl hN; omega
  | succ N ih =>
    intro v pl hN hv hI
    by_cases hvn : v = n
    · subst hvn
      refine br_t (nI_le (by omega) (by omega)) ?_
      intro x ex
      rw [nI_1] at ex
      subst ex
      exact hJ pl hI
    · have iv : vp_in (nI v) 5 := vp_in_nI (by omega) (by omega)
      refine br_f (nI_ge (by omega) (by omega)) (br_f h4 ?_)
      unfold wY_find_161
      rw [nI_clamp (n := v) (by omega)]
      refine ⟨iv, iv, fun y ey x ex => ?_⟩
      rw [nI_1] at ex
      subst ex; subst ey
      refine ih (v + 1) _ (by omega) (by omega) (fun x hx => ?_)
      by_cases e : x = v
      · rw [e, pk_us]; exact hla v (by omega)
      · rw [pk_un e]; exact hI x (by omega)
theorem rb_Y_122n {post : SY → Prop} {J : Int32 → Int32 → Int32 → Int32 → Int32 → (Nat → Int32) → (Nat → Int32) → (Nat → Int32) → (Nat → Int32) → (Nat → Int32) → (Nat → Int32) → (Nat → Int32) → (Nat → Int32) → Prop}
    {x1 x3 : Int32} {c : Nat} (hn5 : n ≤ 5) (h3 : ¬ x3 = bp)
    (hJ : J (nI (c + 1)) (nI n) fm kn bp de fr to rg lg ln pl re) :
    ∀ (N v : Nat), n - v < N → v ≤ n → wY_find_122 post J x1 (nI c) x3 0 (nI n) fm kn bp N (nI v) de fr to rg lg ln pl re := by
  intro N
  induction N with
  | zero => intro v hN; omega
  | succ N ih =>
    intro v hN hv
    by_cases hvn : v = n
    · subst hvn
      refine br_t (nI_le (by omega) (by omega)) ?_
      intro x ex
      rw [nI_1] at ex
      subst ex
      exact hJ
    · refine br_f (nI_ge (by omega) (by omega)) (br_t rfl (br_f h3 ?_))
      intro x ex
      rw [nI_1] at ex
      subst ex
      exact ih (v + 1) (by omega) (by omega)
theorem rb_Y_122e {post : SY → Prop} {J : Int32 → Int32 → Int32 → Int32 → Int32 → (Nat → Int32) → (Nat → Int32) → (Nat → Int32) → (Nat → Int32) → (Nat → Int32) → (Nat → Int32) → (Nat → Int32) → (Nat → Int32) → Prop}
    {x1 : Int32} {c : Nat} {t tp : Nat → Nat} (hn5 : n ≤ 5) (hla : rb_La lg t) (ht : ∀ x, t x ≤ 4) (htp : ∀ x, x < n → tp x ≤ 4)
    (hJ : ∀ pl', rb_Ln n pl' (fun x => min (tp x) (t x)) → J (nI (c + 1)) (nI n) fm kn bp de fr to rg lg ln pl' re) :
    ∀ (N v : Nat) (pl : Nat → Int32), n - v < N → v ≤ n → (∀ x, x < v → pl x = -nI (min (tp x) (t x))) → (∀ x, v ≤ x → x < n → pl x = -nI (tp x)) →
    wY_find_122 post J x1 (nI c) bp 0 (nI n) fm kn bp N (nI v) de fr to rg lg ln pl re := by
  intro N
  induction N with
  | zero => intro v pl hN; omega
  | succ N ih =>
    intro v pl hN hv hI hI2
    by_cases hvn : v = n
    · subst hvn
      refine br_t (nI_le (by omega) (by omega)) ?_
      intro x ex
      rw [nI_1] at ex
      subst ex
      exact hJ pl hI
    · have iv : vp_in (nI v) 5 := vp_in_nI (by omega) (by omega)
      have b1 := ht v
      have b2 := htp v (by omega)
      have e1 := hla v (by omega)
      have e2 := hI2 v (by omega) (by omega)
      refine br_f (nI_ge (by omega) (by omega)) (br_t rfl (br_t rfl ?_))
      rw [nI_clamp (n := v) (by omega), e1, e2]
      refine ⟨iv, iv, ek_if (sb_nle (by omega) (by omega)) (fun hle => ?_) (fun hgt => ?_)⟩
      · intro x ex
        rw [nI_1] at ex
        subst ex
        refine ih (v + 1) pl (by omega) (by omega) (fun x hx => ?_) (fun x hx hxn => hI2 x (by omega) hxn)
        by_cases e : x = v
        · rw [e, e2, Nat.min_eq_left hle]
        · exact hI x (by omega)
      · unfold wY_find_161
        rw [nI_clamp (n := v) (by omega)]
        refine ⟨iv, iv, fun y ey x ex => ?_⟩
        rw [nI_1] at ex
        subst ex; subst ey
        refine ih (v + 1) _ (by omega) (by omega) (fun x hx => ?_) (fun x hx hxn => ?_)
        · by_cases e : x = v
          · rw [e, pk_us, e1, Nat.min_eq_right (by omega)]
          · rw [pk_un e]; exact hI x (by omega)
        · rw [pk_un (by omega)]; exact hI2 x (by omega) hxn
/-- the codes before c are tried -/
def rb_Fi (F T w d : Nat → Nat) (m n c : Nat) (bp : Int32) (pl : Nat → Int32) : Prop :=
  (c = 0 ∧ bp = nI 100) ∨ ∃ (B : Nat) (tp : Nat → Nat), bp = nI B ∧ B ≤ 45 ∧ rb_Ln n pl tp ∧ (∀ x, x < n → tp x ≤ 4) ∧
    (∃ c0, c0 < c ∧ rb_L F T w m (rb_tc n c0) ∧ rb_pt F T w d m n (rb_tc n c0) B) ∧
    (∀ c0 P, c0 < c → rb_L F T w m (rb_tc n c0) → rb_pt F T w d m n (rb_tc n c0) P → B ≤ P) ∧
    ∀ x, x < n → (∃ c0, c0 < c ∧ rb_L F T w m (rb_tc n c0) ∧ rb_pt F T w d m n (rb_tc n c0) B ∧ rb_tc n c0 x = tp x) ∧
      ∀ c0, c0 < c → rb_L F T w m (rb_tc n c0) → rb_pt F T w d m n (rb_tc n c0) B → tp x ≤ rb_tc n c0 x
theorem rb_Fi_skip {c : Nat} (hl : ¬ rb_L F T w m (rb_tc n c)) (h : rb_Fi F T w d m n c bp pl) : rb_Fi F T w d m n (c + 1) bp pl := by
  have hs : ∀ c0, c0 < c + 1 → rb_L F T w m (rb_tc n c0) → c0 < c := by
    intro c0 h0 hl0
    rcases Nat.lt_or_ge c0 c with h' | h'
    · exact h'
    · have e : c0 = c := by omega
      rw [e] at hl0
      exact absurd hl0 hl
  rcases h with ⟨e, _⟩ | ⟨B, tp, h1, h2, h3, h4, ⟨c0, g1, g2, g3⟩, h6, h7⟩
  · subst e
    rw [rb_tc_0] at hl
    exact absurd (fun i _ => Nat.zero_le _) hl
  · refine Or.inr ⟨B, tp, h1, h2, h3, h4, ⟨c0, by omega, g2, g3⟩, fun c1 P a b e => h6 c1 P (hs c1 a b) b e, fun x hx => ?_⟩
    obtain ⟨⟨c1, a1, a2, a3, a4⟩, k⟩ := h7 x hx
    exact ⟨⟨c1, by omega, a2, a3, a4⟩, fun c2 b1 b2 b3 => k c2 (hs c2 b1 b2) b2 b3⟩
theorem rb_Fi_worse {c B P : Nat} (hp : rb_pt F T w d m n (rb_tc n c) P) (h0 : ¬ (c = 0 ∧ bp = nI 100)) (hB : bp = nI B) (hB' : B ≤ 45) (hlt : B < P)
    (h : rb_Fi F T w d m n c bp pl) : rb_Fi F T w d m n (c + 1) bp pl := by
  rcases h with h | ⟨B', tp, h1, h2, h3, h4, ⟨c0, g1, g2, g3⟩, h6, h7⟩
  · exact absurd h h0
  · have eB : B' = B := by
      rw [hB] at h1
      exact ((nI_eq (by omega) (by omega)).mp h1).symm
    subst eB
    have hs : ∀ c0, c0 < c + 1 → rb_pt F T w d m n (rb_tc n c0) B' → c0 < c := by
      intro c0 h0 hp0
      rcases Nat.lt_or_ge c0 c with h' | h'
      · exact h'
      · have e : c0 = c := by omega
        rw [e] at hp0
        have := rb_pt_un hp hp0
        omega
    refine Or.inr ⟨B', tp, h1, h2, h3, h4, ⟨c0, by omega, g2, g3⟩, fun c1 P' a b e => ?_, fun x hx => ?_⟩
    · by_cases e' : c1 = c
      · rw [e'] at e
        have := rb_pt_un hp e
        omega
      · exact h6 c1 P' (by omega) b e
    · obtain ⟨⟨c1, a1, a2, a3, a4⟩, k⟩ := h7 x hx
      exact ⟨⟨c1, by omega, a2, a3, a4⟩, fun c2 b1 b2 b3 => k c2 (hs c2 b1 b3) b2 b3⟩
theorem rb_Fi_equal {c B : Nat} {tp : Nat → Nat} {pl' : Nat → Int32} (hl : rb_L F T w m (rb_tc n c)) (hp : rb_pt F T w d m n (rb_tc n c) B)
    (h1 : bp = nI B) (h2 : B ≤ 45) (h3 : rb_Ln n pl' (fun x => min (tp x) (rb_tc n c x))) (h4 : ∀ x, x < n → tp x ≤ 4)
    (h6 : ∀ c0 P, c0 < c → rb_L F T w m (rb_tc n c0) → rb_pt F T w d m n (rb_tc n c0) P → B ≤ P)
    (h7 : ∀ x, x < n → (∃ c0, c0 < c ∧ rb_L F T w m (rb_tc n c0) ∧ rb_pt F T w d m n (rb_tc n c0) B ∧ rb_tc n c0 x = tp x) ∧
      ∀ c0, c0 < c → rb_L F T w m (rb_tc n c0) → rb_pt F T w d m n (rb_tc n c0) B → tp x ≤ rb_tc n c0 x) :
    rb_Fi F T w d m n (c + 1) bp pl' := by
  refine Or.inr ⟨B, _, h1, h2, h3, fun x hx => ?_, ⟨c, by omega, hl, hp⟩, fun c1 P' a b e => ?_, fun x hx => ?_⟩
  · have := h4 x hx
    show min (tp x) (rb_tc n c x) ≤ 4
    omega
  · by_cases e' : c1 = c
    · rw [e'] at e
      have := rb_pt_un hp e
      omega
    · exact h6 c1 P' (by omega) b e
  · obtain ⟨⟨c1, a1, a2, a3, a4⟩, k⟩ := h7 x hx
    refine ⟨?_, fun c2 b1 b2 b3 => ?_⟩
    · show ∃ c0, c0 < c + 1 ∧ rb_L F T w m (rb_tc n c0) ∧ rb_pt F T w d m n (rb_tc n c0) B ∧ rb_tc n c0 x = min (tp x) (rb_tc n c x)
      rcases Nat.le_total (tp x) (rb_tc n c x) with h' | h'
      · rw [Nat.min_eq_left h']; exact ⟨c1, by omega, a2, a3, a4⟩
      · rw [Nat.min_eq_right h']; exact ⟨c, by omega, hl, hp, rfl⟩
    · show min (tp x) (rb_tc n c x) ≤ rb_tc n c2 x
      by_cases e' : c2 = c
      · rw [e']; exact Nat.min_le_right _ _
      · exact Nat.le_trans (Nat.min_le_left _ _) (k c2 (by omega) b2 b3)
theorem rb_Fi_better {c P : Nat} {pl' : Nat → Int32} (hl : rb_L F T w m (rb_tc n c)) (hp : rb_pt F T w d m n (rb_tc n c) P) (hP : P ≤ 45)
    (hlt : ∀ c0 P', c0 < c → rb_L F T w m (rb_tc n c0) → rb_pt F T w d m n (rb_tc n c0) P' → P < P') (h3 : rb_Ln n pl' (rb_tc n c)) : rb_Fi F T w d m n (c + 1) (nI P) pl' := by
  refine Or.inr ⟨P, _, rfl, hP, h3, fun x _ => rb_tc_le n c x, ⟨c, by omega, hl, hp⟩, fun c1 P' a b e => ?_, fun x hx => ⟨⟨c, by omega, hl, hp, rfl⟩, fun c2 b1 b2 b3 => ?_⟩⟩
  · by_cases e' : c1 = c
    · rw [e'] at e
      have := rb_pt_un hp e
      omega
    · have := hlt c1 P' (by omega) b e
      omega
  · by_cases e' : c2 = c
    · rw [e']; exact Nat.le_refl _
    · have := hlt c2 P (by omega) b2 b3
      omega
theorem rb_Y_72 {post : SY → Prop} (hC : rb_C F T d m n) (hcap : ∀ i, i < m → w i < 1000) (hS : rb_S F T w m) {all : Nat} (hall : all ≤ 3125)
    (h : ∀ bp' lg' ln' pl', rb_Fi F T w d m n all bp' pl' → post (nI n, nI m, 1, bp', rb_A d, rb_A F, rb_A T, rb_A w, lg', ln', pl', re)) :
    ∀ (N c : Nat) (bp : Int32) (lg ln pl : Nat → Int32), all - c < N → c ≤ all → rb_Fi F T w d m n c bp pl →
    wY_find_72 post (nI all) N (nI c) (nI n) (nI m) kn bp (rb_A d) (rb_A F) (rb_A T) (rb_A w) lg ln pl re := by
  have hn5 := hC.2.1
  intro N
  induction N with
  | zero => intro c bp lg ln pl hN; omega
  | succ N ih =>
    intro c bp lg ln pl hN hc hI
    by_cases hca : c = all
    · subst hca
      exact br_t (nI_le (by omega) (by omega)) (h bp lg ln pl hI)
    · refine br_f (nI_ge (by omega) (by omega)) ?_
      refine rb_Y_writeLags hn5 (by omega) ?_
      intro lg1 hla
      refine rb_Y_legal hC hcap hla (rb_tc_le n c) (fun hl => ?_) (fun hl => ?_)
      · refine br_f (by decide) ?_
        refine rb_Y_longest hC hcap hS hl hla (rb_tc_le n c) ?_
        intro P ln1 hp hP
        have hnext : ∀ bp' pl', rb_Fi F T w d m n (c + 1) bp' pl' →
            wY_find_72 post (nI all) N (nI (c + 1)) (nI n) (nI m) kn bp' (rb_A d) (rb_A F) (rb_A T) (rb_A w) lg1 ln1 pl' re :=
          fun bp' pl' hF => ih (c + 1) bp' lg1 ln1 pl' (by omega) (by omega) hF
        rcases hI with ⟨e0, eb⟩ | ⟨B, tp, h1, h2, h3, h4, h5, h6, h7⟩
        · subst eb
          refine br_f (nI_ge (by omega) (by omega)) (br_f (by decide) ⟨n + 1, ?_⟩)
          refine rb_Y_122b hn5 hla (by decide) (fun pl' hpl => hnext (nI P) pl' (rb_Fi_better hl hp hP (fun c0 P' a => by omega) hpl)) (n + 1) 0 pl (by omega) (by omega) (fun x hx => by omega)
        · subst h1
          refine pk_le B P (fun hle => ?_) (fun hgt => ?_)
          · refine br_t rfl ⟨n + 1, ?_⟩
            by_cases e : P = B
            · subst e
              exact rb_Y_122e hn5 hla (rb_tc_le n c) h4 (fun pl' hpl => hnext _ pl' (rb_Fi_equal hl hp rfl h2 hpl h4 h6 h7)) (n + 1) 0 pl (by omega) (by omega) (fun x hx => by omega) (fun x _ hx => h3 x hx)
            · refine rb_Y_122n hn5 ?_ (hnext _ pl (rb_Fi_worse hp ?_ rfl h2 (by omega) (Or.inr ⟨B, tp, rfl, h2, h3, h4, h5, h6, h7⟩))) (n + 1) 0 (by omega) (by omega)
              · intro e'
                exact e ((nI_eq (by omega) (by omega)).mp e')
              · intro ⟨_, e'⟩
                have := (nI_eq (a := B) (b := 100) (by omega) (by omega)).mp e'
                omega
          · refine br_f (by decide) ⟨n + 1, ?_⟩
            refine rb_Y_122b hn5 hla (by decide) (fun pl' hpl => hnext (nI P) pl' (rb_Fi_better hl hp hP (fun c0 P' a b e => ?_) hpl)) (n + 1) 0 pl (by omega) (by omega) (fun x hx => by omega)
            have := h6 c0 P' a b e
            omega
      · refine br_t rfl ?_
        intro x ex
        rw [nI_1] at ex
        subst ex
        exact ih (c + 1) bp lg1 ln pl (by omega) (by omega) (rb_Fi_skip hl hI)
/-- all codes tried: the best period and its least plan -/
theorem rb_Fi_end (hC : rb_C F T d m n) {p : Nat} {t : Nat → Nat} (hO : rb_Op F T w d m n p t) (h : rb_Fi F T w d m n (5 ^ n) bp pl) (hp45 : p ≤ 45) : bp = nI p ∧ rb_Ln n pl t := by
  obtain ⟨hn1, hn5, hm12, hF, hT, hd⟩ := hC
  obtain ⟨c, hc, ec⟩ := rb_tc_ex hn1 hn5 (rb_le4 hF hT hn5 hO.1) hO.1.2.1
  have hl := hO.1.1.1
  rcases h with ⟨e, _⟩ | ⟨B, tp, h1, h2, h3, h4, ⟨c0, g1, g2, g3⟩, h6, h7⟩
  · have := Nat.pow_pos (a := 5) (n := n) (by omega)
    omega
  · have k1 : p ≤ B := hO.2 B _ ((rb_pt_Fe g2 g3).mpr (Nat.le_refl _))
    have hpt : rb_pt F T w d m n t p := by
      refine ⟨fun u v q hu hq he => hO.1.1.2 u v q hu hq he, ?_⟩
      refine Classical.byContradiction fun hno => ?_
      by_cases hp0 : p = 0
      · have e0 := hO.1.1.2 0 0 [] (by omega) rfl (by simp [rb_r])
        exact hno ⟨0, 0, [], by omega, rfl, by simp [rb_r], by omega⟩
      · have hf : rb_Fe F T w d m n (p - 1) t := by
          refine ⟨hl, fun u v q hu hq he => ?_⟩
          have a1 := hO.1.1.2 u v q hu hq he
          have a2 : d u + rb_r (fun i => d (T i)) q ≠ p := fun e => hno ⟨u, v, q, hu, hq, he, e⟩
          omega
        have := hO.2 _ _ hf
        omega
    have k2 : B ≤ p := h6 c p hc (by rw [ec]; exact hl) (by rw [ec]; exact hpt)
    have e : B = p := by omega
    subst e
    refine ⟨h1, fun x hx => ?_⟩
    rw [h3 x hx]
    obtain ⟨⟨c1, a1, a2, a3, a4⟩, k⟩ := h7 x hx
    have k3 := k c hc (by rw [ec]; exact hl) (by rw [ec]; exact hpt)
    rw [ec] at k3
    have k4 := hO.1.2.2 _ ((rb_pt_Fe a2 a3).mpr (Nat.le_refl _)) x hx
    have : tp x = t x := by omega
    rw [this]
theorem rb_Y_find {post : SY → Prop} (hC : rb_C F T d m n) (hcap : ∀ i, i < m → w i < 1000) (hS : rb_S F T w m) {p : Nat} {t : Nat → Nat} (hO : rb_Op F T w d m n p t)
    (hK : ¬ kn = 0 → kn = 1 ∧ bp = nI p ∧ rb_Ln n pl t)
    (h : ∀ lg' ln' pl', rb_Ln n pl' t → post (nI n, nI m, 1, nI p, rb_A d, rb_A F, rb_A T, rb_A w, lg', ln', pl', re)) :
    wpY_find post (nI n, nI m, kn, bp, rb_A d, rb_A F, rb_A T, rb_A w, lg, ln, pl, re) := by
  have hC' := hC
  obtain ⟨hn1, hn5, hm12, hF, hT, hd⟩ := hC'
  have key : ∃ N, wY_find_72 post (nI (5 ^ n)) N 0 (nI n) (nI m) kn 100 (rb_A d) (rb_A F) (rb_A T) (rb_A w) lg ln pl re := by
    have hall : 5 ^ n ≤ 3125 := Nat.pow_le_pow_right (n := 5) (by omega) hn5
    refine ⟨5 ^ n + 1, rb_Y_72 hC hcap hS hall ?_ (5 ^ n + 1) 0 (nI 100) lg ln pl (Nat.lt_succ_of_le (Nat.sub_le _ _)) (Nat.zero_le _) (Or.inl ⟨rfl, rfl⟩)⟩
    intro bp' lg' ln' pl' hf
    obtain ⟨e, hl⟩ := rb_Fi_end hC hO hf (rb_Op_45 hC hS hO)
    subst e
    exact h lg' ln' pl' hl
  refine br_c (fun _ => ?_) (fun hk => ?_)
  · refine pk_eq n 1 (fun e => ?_) (fun e1 => pk_eq n 2 (fun e => ?_) (fun e2 => pk_eq n 3 (fun e => ?_) (fun e3 => pk_eq n 4 (fun e => ?_) (fun e4 => ?_))))
    · subst e; exact key
    · subst e; exact key
    · subst e; exact key
    · subst e; exact key
    · have e : n = 5 := by omega
      subst e; exact key
  · obtain ⟨e1, e2, e3⟩ := hK hk
    subst e1; subst e2
    exact h lg ln pl e3
end
end
section
/-! fewest on both sides -/
def rb_rc (k : Nat) : Int32 := if k = 1000000 then -1 else nI k
theorem rb_rc_top : rb_rc 1000000 = -1 := if_pos rfl
theorem rb_rc_of {k : Nat} (h : k ≠ 1000000) : rb_rc k = nI k := if_neg h
section
variable {F T w d : Nat → Nat} {m n : Nat} {fn kn bp : Int32} {de lg ln pl : Nat → Int32} {u : Nat}
def rb_Rh (n : Nat) (re : Nat → Int32) (R : Nat → Nat) : Prop := ∀ x, x < n → re x = rb_rc (R x)
theorem rb_Rh_set {re : Nat → Int32} {R : Nat → Nat} {k y : Nat} (hy : y ≠ 1000000) (h : rb_Rh n re R) : rb_Rh n (upd re k (nI y)) (fun x => if x = k then y else R x) := by
  intro x hx
  show (if x = k then nI y else re x) = rb_rc (if x = k then y else R x)
  by_cases e : x = k
  · rw [if_pos e, if_pos e, rb_rc_of hy]
  · rw [if_neg e, if_neg e]; exact h x hx
/-- what is reached is reached by a way -/
def rb_Ra (F T w : Nat → Nat) (m n u B : Nat) (R : Nat → Nat) : Prop := ∀ x, x < n → R x = 1000000 ∨ (R x ≤ B ∧ ∃ q, q ≠ [] ∧ rb_W F T m u x q ∧ rb_r w q = R x)
def rb_Wr (F T w : Nat → Nat) (m n u j B : Nat) (R0 R : Nat → Nat) : Prop :=
  (∀ x, R x ≤ R0 x) ∧ rb_Ra F T w m n u (B + 1000 * j) R ∧ (∀ i, i < j → F i = u → R (T i) ≤ w i) ∧ ∀ i, i < j → R0 (F i) ≠ 1000000 → R (T i) ≤ R0 (F i) + w i
def rb_Wh (F T w : Nat → Nat) (m n u r : Nat) (R : Nat → Nat) : Prop :=
  rb_Ra F T w m n u (12000 * r) R ∧ ∀ x q, x < n → q ≠ [] → rb_W F T m u x q → q.length ≤ r → R x ≠ 1000000 ∧ R x ≤ rb_r w q
theorem rb_Wh_step {r : Nat} {R0 R : Nat → Nat} (hr : r ≤ 5) (hF : ∀ i, i < m → F i < n) (hm : m ≤ 12) (hcap : ∀ i, i < m → w i < 1000) (h0 : rb_Wh F T w m n u r R0) (h : rb_Wr F T w m n u m (12000 * r) R0 R) : rb_Wh F T w m n u (r + 1) R := by
  refine ⟨fun x hx => ?_, fun x q hx hq hw hl => ?_⟩
  · rcases h.2.1 x hx with h1 | ⟨h1, h2⟩
    · exact Or.inl h1
    · exact Or.inr ⟨by omega, h2⟩
  · obtain ⟨q', i, e, g1, g2, g3⟩ := rb_W_snoc q u x hq hw
    have hwi := hcap i g2
    rw [e, rb_r_app]
    simp only [rb_r]
    rw [e, List.length_append] at hl
    simp only [List.length_cons, List.length_nil] at hl
    by_cases hq' : q' = []
    · subst hq'
      have e1 : u = F i := g1
      have := h.2.2.1 i g2 e1.symm
      rw [g3] at this
      simp only [rb_r]
      omega
    · obtain ⟨k1, k2⟩ := h0.2 (F i) q' (hF i g2) hq' g1 (by omega)
      have k3 := h.2.2.2 i g2 k1
      rw [g3] at k3
      rcases h0.1 (F i) (hF i g2) with k4 | ⟨k4, _⟩
      · exact absurd k4 k1
      · omega
theorem rb_Y_85 {post : Int32 → SY → Prop} {J40 J49 : Int32 → (Nat → Int32) → (Nat → Int32) → (Nat → Int32) → (Nat → Int32) → (Nat → Int32) → (Nat → Int32) → (Nat → Int32) → (Nat → Int32) → Prop}
    (hC : rb_C F T d m n) (hcap : ∀ i, i < m → w i < 1000) {x1 x2 x3 z0 : Int32} {j z : Nat} {R : Nat → Nat} {re : Nat → Int32} (hj : j < m) (hz : z0 = rb_rc z) (hzb : z = 1000000 ∨ z ≤ 90000)
    (hR : rb_Rh n re R) (hRb : R (T j) = 1000000 ∨ R (T j) ≤ 90000)
    (hskip : (z = 1000000 ∨ (z ≤ 90000 ∧ R (T j) ≤ z + w j)) → J49 (nI (j + 1)) de (rb_A F) (rb_A T) (rb_A w) lg ln pl re)
    (hset : z ≤ 90000 → z + w j < R (T j) → ∀ re', rb_Rh n re' (fun x => if x = T j then z + w j else R x) → J49 (nI (j + 1)) de (rb_A F) (rb_A T) (rb_A w) lg ln pl re') :
    wY_fewest_85 post J40 J49 x1 x2 x3 (nI j) z0 fn (nI m) kn bp de (rb_A F) (rb_A T) (rb_A w) lg ln pl re := by
  obtain ⟨hn1, hn5, hm12, hF, hT, hd⟩ := hC
  have t5 := hT j hj
  have hw := hcap j hj
  have ij : vp_in (nI j) 12 := vp_in_nI (by omega) (by omega)
  have iT : vp_in (nI (T j)) 25 := vp_in_nI (by omega) (by omega)
  have ej : (nI j).toNatClampNeg = j := nI_clamp (by omega)
  have eT : (rb_A T j).toNatClampNeg = T j := nI_clamp (by omega)
  have hdo : z ≤ 90000 → z + w j < R (T j) → wY_fewest_132 post J40 J49 x1 x2 x3 (nI j) z0 fn (nI m) kn bp de (rb_A F) (rb_A T) (rb_A w) lg ln pl re := by
    intro h1 h2
    unfold wY_fewest_132
    rw [ej, eT]
    refine ⟨ij, ij, iT, fun y ey x ex => ?_⟩
    rw [nI_1] at ex
    have ey : y = upd re (T j) (nI (z + w j)) := by
      rw [ey, hz, rb_rc_of (by omega)]
      show upd re (T j) (nI z + nI (w j)) = _
      rw [nI_add]
    subst ex; subst ey
    exact hset h1 h2 _ (rb_Rh_set (by omega) hR)
  have hgo : (z = 1000000 ∨ (z ≤ 90000 ∧ R (T j) ≤ z + w j)) → ∀ x, x = nI j + 1 → J49 x de (rb_A F) (rb_A T) (rb_A w) lg ln pl re := by
    intro h x ex
    rw [nI_1] at ex
    subst ex
    exact hskip h
  unfold wY_fewest_85
  rw [ej, eT, hR (T j) t5]
  rcases hzb with hz1 | hz1
  · rw [hz, hz1, rb_rc_top]
    exact br_t (by decide) (hgo (Or.inl hz1))
  · have e0 : z0 = nI z := by rw [hz]; exact rb_rc_of (by omega)
    refine br_f (by rw [e0]; exact nI_pos (by omega)) ⟨ij, iT, ?_⟩
    rcases hRb with h1 | h1
    · rw [h1, rb_rc_top]
      exact br_t (by decide) (hdo hz1 (by omega))
    · rw [rb_rc_of (by omega)]
      refine br_f (nI_pos (by omega)) ⟨ij, ij, iT, ?_⟩
      refine pk_le (R (T j)) (z + w j) (fun hle => hgo (Or.inr ⟨hz1, hle⟩)) (fun hgt => hdo hz1 hgt) rfl ?_
      rw [e0]
      exact nI_add _ _
theorem rb_Y_49 {post : Int32 → SY → Prop} {J40 : Int32 → (Nat → Int32) → (Nat → Int32) → (Nat → Int32) → (Nat → Int32) → (Nat → Int32) → (Nat → Int32) → (Nat → Int32) → (Nat → Int32) → Prop}
    (hC : rb_C F T d m n) (hcap : ∀ i, i < m → w i < 1000) {x2 : Int32} {r B : Nat} (hB : B ≤ 72000) (hu : u < n) {R0 : Nat → Nat} (hR0 : ∀ x, x < n → R0 x = 1000000 ∨ R0 x ≤ 90000)
    (hJ : ∀ R re', rb_Wr F T w m n u m B R0 R → rb_Rh n re' R → J40 (nI (r + 1)) de (rb_A F) (rb_A T) (rb_A w) lg ln pl re') :
    ∀ (N j : Nat) (R : Nat → Nat) (re : Nat → Int32), m - j < N → j ≤ m → rb_Wr F T w m n u j B R0 R → rb_Rh n re R →
    wY_fewest_49 post J40 (nI u) x2 (nI r) fn (nI m) kn bp N (nI j) de (rb_A F) (rb_A T) (rb_A w) lg ln pl re := by
  have hC' := hC
  obtain ⟨hn1, hn5, hm12, hF, hT, hd⟩ := hC'
  intro N
  induction N with
  | zero => intro j R re hN; omega
  | succ N ih =>
    intro j R re hN hj hR hL
    by_cases hjm : j = m
    · subst hjm
      refine br_t (nI_le (by omega) (by omega)) ?_
      intro x ex
      rw [nI_1] at ex
      subst ex
      exact hJ R re hR hL
    · have hjm : j < m := by omega
      have f5 := hF j hjm
      have t5 := hT j hjm
      have hw := hcap j hjm
      have ij : vp_in (nI j) 12 := vp_in_nI (by omega) (by omega)
      have iF : vp_in (nI (F j)) 25 := vp_in_nI (by omega) (by omega)
      have hb : ∀ x, x < n → R x = 1000000 ∨ R x ≤ 90000 := by
        intro x hx
        rcases hR.2.1 x hx with h | ⟨h, _⟩
        · exact Or.inl h
        · exact Or.inr (by omega)
      have hbB : rb_Ra F T w m n u (B + 1000 * (j + 1)) R := by
        intro x hx
        rcases hR.2.1 x hx with h | ⟨h, h'⟩
        · exact Or.inl h
        · exact Or.inr ⟨by omega, h'⟩
      -- the value z of the way to the tail
      have main : ∀ (z : Nat) (z0 : Int32), z0 = rb_rc z → (z = 1000000 ∨ z ≤ 90000) → (F j = u → z = 0) → (F j ≠ u → z = R (F j)) →
          wY_fewest_85 post J40 (wY_fewest_49 post J40 (nI u) x2 (nI r) fn (nI m) kn bp N) (nI u) x2 (nI r) (nI j) z0 fn (nI m) kn bp de (rb_A F) (rb_A T) (rb_A w) lg ln pl re := by
        intro z z0 hz hzb hz1 hz2
        refine rb_Y_85 hC hcap hjm hz hzb hL (hb (T j) t5) (fun hs => ?_) (fun h1 h2 re' hre => ?_)
        · refine ih (j + 1) R re (by omega) (by omega) ⟨hR.1, hbB, fun i hi hFi => ?_, fun i hi hRi => ?_⟩ hL
          · by_cases e : i = j
            · subst e
              have := hz1 hFi
              omega
            · exact hR.2.2.1 i (by omega) hFi
          · by_cases e : i = j
            · subst e
              by_cases e' : F i = u
              · have := hz1 e'
                omega
              · have k1 := hz2 e'
                have k2 := hR.1 (F i)
                have k3 := hR0 (F i) f5
                omega
            · exact hR.2.2.2 i (by omega) hRi
        · refine ih (j + 1) _ re' (by omega) (by omega) ⟨fun x => ?_, fun x hx => ?_, fun i hi hFi => ?_, fun i hi hRi => ?_⟩ hre
          · show (if x = T j then z + w j else R x) ≤ R0 x
            have := hR.1 x
            by_cases e : x = T j
            · rw [if_pos e]; rw [e] at this ⊢; omega
            · rw [if_neg e]; exact this
          · show (if x = T j then z + w j else R x) = 1000000 ∨ ((if x = T j then z + w j else R x) ≤ B + 1000 * (j + 1) ∧ ∃ q, q ≠ [] ∧ rb_W F T m u x q ∧ rb_r w q = if x = T j then z + w j else R x)
            by_cases e : x = T j
            · rw [if_pos e]
              by_cases e' : F j = u
              · have k1 := hz1 e'
                refine Or.inr ⟨by omega, [j], by simp, ⟨hjm, e', e.symm⟩, by simp only [rb_r]; omega⟩
              · have k1 := hz2 e'
                rcases hR.2.1 (F j) f5 with h | ⟨h, q, g1, g2, g3⟩
                · omega
                · refine Or.inr ⟨by omega, q ++ [j], by simp, (rb_W_app q [j] u x).mpr ⟨F j, g2, hjm, rfl, e.symm⟩, ?_⟩
                  rw [rb_r_app]
                  simp only [rb_r]
                  omega
            · rw [if_neg e]; exact hbB x hx
          · show (if T i = T j then z + w j else R (T i)) ≤ w i
            by_cases e : i = j
            · subst e
              have := hz1 hFi
              rw [if_pos rfl]
              omega
            · have h3 := hR.2.2.1 i (by omega) hFi
              by_cases e' : T i = T j
              · rw [if_pos e']; rw [e'] at h3; omega
              · rw [if_neg e']; exact h3
          · show (if T i = T j then z + w j else R (T i)) ≤ R0 (F i) + w i
            by_cases e : i = j
            · subst e
              rw [if_pos rfl]
              by_cases e' : F i = u
              · have := hz1 e'
                omega
              · have k1 := hz2 e'
                have k2 := hR.1 (F i)
                omega
            · have h3 := hR.2.2.2 i (by omega) hRi
              by_cases e' : T i = T j
              · rw [if_pos e']; rw [e'] at h3; omega
              · rw [if_neg e']; exact h3
      refine br_f (nI_ge (by omega) (by omega)) ?_
      rw [nI_clamp (n := j) (by omega)]
      have eF : (rb_A F j).toNatClampNeg = F j := nI_clamp (by omega)
      rw [eF, hL (F j) f5]
      refine ⟨ij, pk_eq (F j) u (fun e => ?_) (fun e => ⟨ij, iF, ?_⟩)⟩
      · exact main 0 0 rfl (Or.inr (by omega)) (fun _ => rfl) (fun h => absurd e h)
      · exact main (R (F j)) _ rfl (hb (F j) f5) (fun h => absurd h e) (fun _ => rfl)
theorem rb_Y_40 {post : Int32 → SY → Prop} (hC : rb_C F T d m n) (hcap : ∀ i, i < m → w i < 1000) {v : Nat} (hu : u < n) (hv : v < n)
    (h2 : ∀ re', (∀ q, q ≠ [] → rb_W F T m u v q → False) → post (-2) (fn, nI m, kn, bp, de, rb_A F, rb_A T, rb_A w, lg, ln, pl, re'))
    (h1 : ∀ re' l, (∃ q, q ≠ [] ∧ rb_W F T m u v q ∧ rb_r w q = l) → (∀ q, q ≠ [] → rb_W F T m u v q → l ≤ rb_r w q) → post (nI l) (fn, nI m, kn, bp, de, rb_A F, rb_A T, rb_A w, lg, ln, pl, re')) :
    ∀ (N r : Nat) (R : Nat → Nat) (re : Nat → Int32), 6 - r < N → r ≤ 6 → rb_Wh F T w m n u r R → rb_Rh n re R →
    wY_fewest_40 post (nI u) (nI v) fn (nI m) kn bp N (nI r) de (rb_A F) (rb_A T) (rb_A w) lg ln pl re := by
  have hC' := hC
  obtain ⟨hn1, hn5, hm12, hF, hT, hd⟩ := hC'
  intro N
  induction N with
  | zero => intro r R re hN; omega
  | succ N ih =>
    intro r R re hN hr hI hL
    by_cases h6 : r = 6
    · subst h6
      have iv : vp_in (nI v) 25 := vp_in_nI (by omega) (by omega)
      refine br_t (nI_le (a := 6) (by omega) (by omega)) ?_
      rw [nI_clamp (n := v) (by omega), hL v hv]
      refine ⟨iv, ?_⟩
      have hall : ∀ q, q ≠ [] → rb_W F T m u v q → R v ≠ 1000000 ∧ R v ≤ rb_r w q := by
        intro q hq hw
        obtain ⟨q', k1, k2, k3, k4, k5, k6⟩ := rb_simp (w := w) hF q.length q u v (Nat.le_refl _) hq hw
        have := hI.2 v q' hv k1 k2 (by omega)
        omega
      rcases hI.1 v hv with h | ⟨hb, hex⟩
      · rw [h, rb_rc_top]
        exact br_f (by decide) (h2 re (fun q hq hw => (hall q hq hw).1 h))
      · rw [rb_rc_of (by omega)]
        exact br_t (nI_pos' (by omega)) ⟨iv, h1 re (R v) hex (fun q hq hw => (hall q hq hw).2)⟩
    · refine br_f (nI_ge (b := 6) (by omega) (by omega)) ⟨m + 1, ?_⟩
      refine rb_Y_49 hC hcap (B := 12000 * r) (by omega) hu (R0 := R) (fun x hx => ?_) (fun R' re' g1 g2 => ?_) (m + 1) 0 R re (by omega) (by omega) ⟨fun _ => Nat.le_refl _, hI.1, fun i hi => by omega, fun i hi => by omega⟩ hL
      · rcases hI.1 x hx with h | ⟨h, _⟩
        · exact Or.inl h
        · exact Or.inr (by omega)
      · exact ih (r + 1) R' re' (by omega) (by omega) (rb_Wh_step (by omega) hF hm12 hcap hI g1) g2
theorem rb_Y_20 {post : Int32 → SY → Prop} {fm x1 x2 : Int32} {fr to rg : Nat → Int32}
    (h : ∀ re', (∀ x, x < 5 → re' x = -1) → ∃ N', wY_fewest_40 post x1 x2 fn fm kn bp N' 0 de fr to rg lg ln pl re') :
    ∀ (N v : Nat) (re : Nat → Int32), 5 - v < N → v ≤ 5 → (∀ x, x < v → re x = -1) → wY_fewest_20 post x1 x2 fn fm kn bp N (nI v) de fr to rg lg ln pl re := by
  intro N
  induction N with
  | zero => intro v re hN; omega
  | succ N ih =>
    intro v re hN hv hI
    by_cases h5 : v = 5
    · subst h5
      exact br_t (nI_le (a := 5) (by omega) (by omega)) (h re hI)
    · refine br_f (nI_ge (b := 5) (by omega) (by omega)) ?_
      rw [nI_clamp (n := v) (by omega)]
      refine ⟨vp_in_nI (by omega) (by omega), fun y ey x ex => ?_⟩
      rw [nI_1] at ex
      subst ex; subst ey
      refine ih (v + 1) _ (by omega) (by omega) (fun x hx => ?_)
      by_cases e : x = v
      · rw [e, pk_us]
      · rw [pk_un e]; exact hI x (by omega)
end
end
section
/-! isBlock, stores, the loops of cut and apply -/
theorem rb_A_upd (f : Nat → Nat) (k y : Nat) : upd (rb_A f) k (nI y) = rb_A (fun x => if x = k then y else f x) := by
  funext x
  show (if x = k then nI y else nI (f x)) = nI (if x = k then y else f x)
  by_cases e : x = k
  · rw [if_pos e, if_pos e]
  · rw [if_neg e, if_neg e]
theorem rb_b8' : ∀ y : Fin 10, (nI y.val).toInt8.toInt32 = nI y.val := by decide
theorem rb_b8 {y : Nat} (h : y < 10) : (nI y).toInt8.toInt32 = nI y := rb_b8' ⟨y, h⟩
theorem rb_byte {y : Nat} (h : y < 10) : vp_nar .byte (nI y).toInt8.toInt32 = nI y := by rw [pk_vb, rb_b8 h]
theorem rb_byte1 {y : Nat} (h : y < 10) : vp_nar .byte (nI y) = nI y := by rw [vp_nar_byte, rb_b8 h]
theorem rb_ne3 {p : Nat} (h : p < 2 ^ 31) : ¬ nI p = -3 := fun e => nI_pos h (by rw [e]; decide)
section
variable {F T w d t : Nat → Nat} {m n : Nat} {wc kn so fm bp : Int32} {de fb tb he le lo la rg lg ln pl re : Nat → Int32}
theorem rb_X_isB {post : Int32 → Prop} (hn5 : n ≤ 5) {p0 : Int32} (h1 : ∀ x, x < n → p0 = nI x → post 1) (h0 : (¬ ∃ x, x < n ∧ p0 = nI x) → post 0) :
    wpX_isBlock post (nI n, wc, kn, so, de, fb, tb, he, le, lo, la) p0 := by
  refine br_c (fun hneg => h0 ?_) (fun hpos => br_c (fun hle => h0 ?_) (fun hgt => ?_))
  · intro ⟨x, hx, e⟩
    rw [e] at hneg
    exact nI_pos (by omega) hneg
  · intro ⟨x, hx, e⟩
    rw [e] at hle
    exact nI_ge hx (by omega) hle
  · rcases pk_ix p0 (n := n) (by omega) with h | h | ⟨j, hj, e⟩
    · exact absurd h hpos
    · exact absurd h hgt
    · exact h1 j hj e
theorem rb_Y_isB {post : Int32 → Prop} (hn5 : n ≤ 5) {p0 : Int32} (h1 : ∀ x, x < n → p0 = nI x → post 1) (h0 : (¬ ∃ x, x < n ∧ p0 = nI x) → post 0) :
    wpY_isBlock post (nI n, fm, kn, bp, de, fb, tb, rg, lg, ln, pl, re) p0 := by
  refine br_c (fun hneg => h0 ?_) (fun hpos => br_c (fun hle => h0 ?_) (fun hgt => ?_))
  · intro ⟨x, hx, e⟩
    rw [e] at hneg
    exact nI_pos (by omega) hneg
  · intro ⟨x, hx, e⟩
    rw [e] at hle
    exact nI_ge hx (by omega) hle
  · rcases pk_ix p0 (n := n) (by omega) with h | h | ⟨j, hj, e⟩
    · exact absurd h hpos
    · exact absurd h hgt
    · exact h1 j hj e
/-- the wires from c to x moved down by one -/
def rb_cf (f : Nat → Nat) (c x : Nat) : Nat → Nat := fun i => if c ≤ i ∧ i < x then f (i + 1) else f i
theorem rb_cf_0 (f : Nat → Nat) (c : Nat) : rb_cf f c c = f := by
  funext i
  exact if_neg (by omega)
theorem rb_cf_at (f : Nat → Nat) {c x : Nat} : rb_cf f c x (x + 1) = f (x + 1) := if_neg (by omega)
theorem rb_cf_s (f : Nat → Nat) {c x : Nat} (h : c ≤ x) : upd (rb_A (rb_cf f c x)) x (nI (f (x + 1))) = rb_A (rb_cf f c (x + 1)) := by
  rw [rb_A_upd]
  congr 1
  funext i
  show (if i = x then f (x + 1) else if c ≤ i ∧ i < x then f (i + 1) else f i) = if c ≤ i ∧ i < x + 1 then f (i + 1) else f i
  by_cases e : i = x
  · rw [if_pos e, if_pos (by omega), e]
  · rw [if_neg e]
    by_cases h1 : c ≤ i ∧ i < x
    · rw [if_pos h1, if_pos (by omega)]
    · rw [if_neg h1, if_neg (by omega)]
theorem rb_X_cut26 {post : Int32 → SX → Prop} {bc : Int32} {c : Nat} (hm : m ≤ 11) (hF : ∀ i, i < m + 1 → F i < 5) (hT : ∀ i, i < m + 1 → T i < 5)
    (h : post (nI m) (bc, nI m, 0, so, de, rb_A (rb_cf F c m), rb_A (rb_cf T c m), rb_A (rb_cf w c m), le, lo, la)) :
    ∀ (N x : Nat), m - x < N → x ≤ m → c ≤ x → wX_cut_26 post bc (nI m) kn so N (nI x) de (rb_A (rb_cf F c x)) (rb_A (rb_cf T c x)) (rb_A (rb_cf w c x)) le lo la := by
  intro N
  induction N with
  | zero => intro x hN; omega
  | succ N ih =>
    intro x hN hx hc
    by_cases e : x = m
    · subst e
      exact br_t (nI_le (by omega) (by omega)) h
    · refine br_f (nI_ge (by omega) (by omega)) ?_
      have i0 : vp_in (nI x) 12 := vp_in_nI (by omega) (by omega)
      have i1 : vp_in (nI (x + 1)) 12 := vp_in_nI (by omega) (by omega)
      have f1 := hF (x + 1) (by omega)
      have t1 := hT (x + 1) (by omega)
      have eF : rb_A (rb_cf F c x) (x + 1) = nI (F (x + 1)) := congrArg nI (rb_cf_at F)
      have eT : rb_A (rb_cf T c x) (x + 1) = nI (T (x + 1)) := congrArg nI (rb_cf_at T)
      have ew : rb_A (rb_cf w c x) (x + 1) = nI (w (x + 1)) := congrArg nI (rb_cf_at w)
      rw [nI_1 x, nI_clamp (n := x) (by omega), nI_clamp (n := x + 1) (by omega), eF, eT, ew, rb_byte1 (by omega), rb_byte1 (by omega), rb_cf_s F hc, rb_cf_s T hc, rb_cf_s w hc]
      refine ⟨i1, i0, fun y1 e1 => ⟨i1, i0, fun y2 e2 => ⟨i1, i0, fun y3 e3 x' ex => ?_⟩⟩⟩
      subst e1; subst e2; subst e3; subst ex
      exact ih (x + 1) (by omega) (by omega) (by omega)
theorem rb_Y_cut16 {post : Int32 → SY → Prop} {fn : Int32} {c : Nat} (hm : m ≤ 11)
    (h : post (nI m) (fn, nI m, 0, bp, de, rb_A (rb_cf F c m), rb_A (rb_cf T c m), rb_A (rb_cf w c m), lg, ln, pl, re)) :
    ∀ (N x : Nat), m - x < N → x ≤ m → c ≤ x → wY_cut_16 post fn (nI (m + 1)) kn bp N (nI x) de (rb_A (rb_cf F c x)) (rb_A (rb_cf T c x)) (rb_A (rb_cf w c x)) lg ln pl re := by
  intro N
  induction N with
  | zero => intro x hN; omega
  | succ N ih =>
    intro x hN hx hc
    by_cases e : x = m
    · subst e
      refine br_t (by rw [nI_pred]; exact nI_le (by omega) (by omega)) ?_
      intro y ey
      rw [nI_pred] at ey
      subst ey
      exact h
    · refine br_f (by rw [nI_pred]; exact nI_ge (by omega) (by omega)) ?_
      have i0 : vp_in (nI x) 12 := vp_in_nI (by omega) (by omega)
      have i1 : vp_in (nI (x + 1)) 12 := vp_in_nI (by omega) (by omega)
      have eF : rb_A (rb_cf F c x) (x + 1) = nI (F (x + 1)) := congrArg nI (rb_cf_at F)
      have eT : rb_A (rb_cf T c x) (x + 1) = nI (T (x + 1)) := congrArg nI (rb_cf_at T)
      have ew : rb_A (rb_cf w c x) (x + 1) = nI (w (x + 1)) := congrArg nI (rb_cf_at w)
      rw [nI_1 x, nI_clamp (n := x) (by omega), nI_clamp (n := x + 1) (by omega), eF, eT, ew, rb_cf_s F hc, rb_cf_s T hc, rb_cf_s w hc]
      refine ⟨i1, i0, fun y1 e1 => ⟨i1, i0, fun y2 e2 => ⟨i1, i0, fun y3 e3 x' ex => ?_⟩⟩⟩
      subst e1; subst e2; subst e3; subst ex
      exact ih (x + 1) (by omega) (by omega) (by omega)
/-- what the plan adds over the wires before j -/
def rb_gs (F T t : Nat → Nat) : Nat → Int32
  | 0 => 0
  | j + 1 => rb_gs F T t j + (-nI (t (T j)) - -nI (t (F j)))
/-- the registers with the wires before j moved -/
def rb_wa (F T w t : Nat → Nat) (j : Nat) : Nat → Nat := fun i => if i < j then w i + t (F i) - t (T i) else w i
theorem rb_wa_0 : rb_wa F T w t 0 = w := by
  funext i
  exact if_neg (by omega)
theorem rb_wa_at {j : Nat} : rb_wa F T w t j j = w j := if_neg (by omega)
theorem rb_mv {a b c : Nat} (ha : a < 2 ^ 20) (hb : b < 2 ^ 20) (hc : c < 2 ^ 20) (h : b ≤ a + c) : nI a + (-nI b - -nI c) = nI (a + c - b) := by
  apply Int32.toInt_inj.mp
  have h1 : (nI a).toInt = (a : Int) := nI_toInt (by omega)
  have h2 : (-nI b).toInt = -(b : Int) := sb_negT (by omega)
  have h3 : (-nI c).toInt = -(c : Int) := sb_negT (by omega)
  have h4 : (-nI b - -nI c).toInt = (c : Int) - b := by rw [rb_sub_T] <;> rw [h2, h3] <;> omega
  rw [rb_add_T] <;> rw [h1, h4] <;> first | omega | (rw [nI_toInt (by omega)]; omega)
theorem rb_wa_s {j : Nat} (hl : t (T j) ≤ w j + t (F j)) : upd (rb_A (rb_wa F T w t j)) j (nI (w j + t (F j) - t (T j))) = rb_A (rb_wa F T w t (j + 1)) := by
  rw [rb_A_upd]
  congr 1
  funext i
  show (if i = j then w j + t (F j) - t (T j) else if i < j then w i + t (F i) - t (T i) else w i) = if i < j + 1 then w i + t (F i) - t (T i) else w i
  by_cases e : i = j
  · rw [if_pos e, if_pos (by omega), e]
  · rw [if_neg e]
    by_cases h1 : i < j
    · rw [if_pos h1, if_pos (by omega)]
    · rw [if_neg h1, if_neg (by omega)]
theorem rb_X_24 {post : Int32 → SX → Prop} {bc : Int32} (hC : rb_C F T d m n) (hcap : ∀ i, i < m → w i < 1000) (hl : rb_L F T w m t) (ht : ∀ x, t x ≤ 4) (hla : rb_La la t)
    (h : post (rb_gs F T t m) (bc, nI m, 0, so, de, rb_A F, rb_A T, rb_A (rb_wa F T w t m), le, lo, la)) :
    ∀ (N j : Nat), m - j < N → j ≤ m → wX_apply_24 post bc (nI m) kn so N (rb_gs F T t j) (nI j) de (rb_A F) (rb_A T) (rb_A (rb_wa F T w t j)) le lo la := by
  obtain ⟨hn1, hn5, hm12, hF, hT, hd⟩ := hC
  intro N
  induction N with
  | zero => intro j hN; omega
  | succ N ih =>
    intro j hN hj
    by_cases e : j = m
    · subst e
      exact br_t (nI_le (by omega) (by omega)) h
    · have hjm : j < m := by omega
      have f5 := hF j hjm
      have t5 := hT j hjm
      have hw := hcap j hjm
      have b1 := ht (F j)
      have b2 := ht (T j)
      have ij : vp_in (nI j) 12 := vp_in_nI (by omega) (by omega)
      have iF : vp_in (nI (F j)) 5 := vp_in_nI (by omega) (by omega)
      have iT : vp_in (nI (T j)) 5 := vp_in_nI (by omega) (by omega)
      have eF : (rb_A F j).toNatClampNeg = F j := nI_clamp (by omega)
      have eT : (rb_A T j).toNatClampNeg = T j := nI_clamp (by omega)
      refine br_f (nI_ge (by omega) (by omega)) ?_
      rw [nI_clamp (n := j) (by omega), eF, eT, hla (F j) (by omega), hla (T j) (by omega)]
      refine ⟨ij, iT, ij, iF, fun x4 e4 => ⟨ij, ij, fun y ey x2 e2 x3 e3 => ?_⟩⟩
      rw [nI_1] at e3
      have gy : y = rb_A (rb_wa F T w t (j + 1)) := by
        rw [ey, e4]
        show upd _ j (nI (rb_wa F T w t j j) + _) = _
        rw [rb_wa_at, rb_mv (by omega) (by omega) (by omega) (hl j hjm), rb_wa_s (hl j hjm)]
      have g2 : x2 = rb_gs F T t (j + 1) := by rw [e2, e4]; rfl
      clear ey e2
      subst gy; subst g2; subst e3
      exact ih (j + 1) (by omega) (by omega)
theorem rb_Y_18 {post : Int32 → SY → Prop} {fn : Int32} (hC : rb_C F T d m n) (hcap : ∀ i, i < m → w i < 1000) (hl : rb_L F T w m t) (ht : ∀ x, t x ≤ 4) (hla : rb_Ln n pl t)
    (h : post (rb_gs F T t m) (fn, nI m, 0, bp, de, rb_A F, rb_A T, rb_A (rb_wa F T w t m), lg, ln, pl, re)) :
    ∀ (N j : Nat), m - j < N → j ≤ m → wY_apply_18 post fn (nI m) kn bp N (rb_gs F T t j) (nI j) de (rb_A F) (rb_A T) (rb_A (rb_wa F T w t j)) lg ln pl re := by
  obtain ⟨hn1, hn5, hm12, hF, hT, hd⟩ := hC
  intro N
  induction N with
  | zero => intro j hN; omega
  | succ N ih =>
    intro j hN hj
    by_cases e : j = m
    · subst e
      exact br_t (nI_le (by omega) (by omega)) h
    · have hjm : j < m := by omega
      have f5 := hF j hjm
      have t5 := hT j hjm
      have hw := hcap j hjm
      have b1 := ht (F j)
      have b2 := ht (T j)
      have ij : vp_in (nI j) 12 := vp_in_nI (by omega) (by omega)
      have iF : vp_in (nI (F j)) 5 := vp_in_nI (by omega) (by omega)
      have iT : vp_in (nI (T j)) 5 := vp_in_nI (by omega) (by omega)
      have eF : (rb_A F j).toNatClampNeg = F j := nI_clamp (by omega)
      have eT : (rb_A T j).toNatClampNeg = T j := nI_clamp (by omega)
      refine br_f (nI_ge (by omega) (by omega)) ?_
      rw [nI_clamp (n := j) (by omega), eF, eT, hla (F j) f5, hla (T j) t5]
      refine ⟨ij, iT, ij, iF, fun x4 e4 => ⟨ij, ij, fun y ey x2 e2 x3 e3 => ?_⟩⟩
      rw [nI_1] at e3
      have gy : y = rb_A (rb_wa F T w t (j + 1)) := by
        rw [ey, e4]
        show upd _ j (nI (rb_wa F T w t j j) + _) = _
        rw [rb_wa_at, rb_mv (by omega) (by omega) (by omega) (hl j hjm), rb_wa_s (hl j hjm)]
      have g2 : x2 = rb_gs F T t (j + 1) := by rw [e2, e4]; rfl
      clear ey e2
      subst gy; subst g2; subst e3
      exact ih (j + 1) (by omega) (by omega)
end
end
section
/-! the relation and the owed statements -/
/-- what holds of the circuit and of both objects' notes of it -/
def rb_Fa (n m : Nat) (F T w d : Nat → Nat) (kx sx : Int32) (le lo : Nat → Int32) (ky bp : Int32) (pl : Nat → Int32) (k : Nat) : Prop :=
  rb_C F T d m n ∧ rb_Gh F T w d m n k ∧ (¬ kx = 0 → kx = 1 ∧ rb_Me F T w d m le lo ∧ rb_sf F T w m sx) ∧
  (¬ ky = 0 → ky = 1 ∧ ∃ p t, rb_Op F T w d m n p t ∧ bp = nI p ∧ rb_Ln n pl t)
/-- the relation at the head of a turn whose first cell is k -/
def i_Rel (k : Nat) (u : SX) (v : SY) : Prop :=
  ∃ (n m : Nat) (F T w d : Nat → Nat) (kx sx : Int32) (le lo la : Nat → Int32) (ky bp : Int32) (lg ln pl re : Nat → Int32),
    u = (nI n, nI m, kx, sx, rb_A d, rb_A F, rb_A T, rb_A w, le, lo, la) ∧ v = (nI n, nI m, ky, bp, rb_A d, rb_A F, rb_A T, rb_A w, lg, ln, pl, re) ∧
    rb_Fa n m F T w d kx sx le lo ky bp pl k
theorem rb_rel {k n m : Nat} {F T w d : Nat → Nat} {kx sx : Int32} {le lo la : Nat → Int32} {ky bp : Int32} {lg ln pl re : Nat → Int32}
    (h : rb_Fa n m F T w d kx sx le lo ky bp pl k) :
    i_Rel k (nI n, nI m, kx, sx, rb_A d, rb_A F, rb_A T, rb_A w, le, lo, la) (nI n, nI m, ky, bp, rb_A d, rb_A F, rb_A T, rb_A w, lg, ln, pl, re) :=
  ⟨n, m, F, T, w, d, kx, sx, le, lo, la, ky, bp, lg, ln, pl, re, rfl, rfl, h⟩
theorem rb_el {k : Nat} {u : SX} {v : SY} {P : SX → SY → Prop} (I : i_Rel k u v)
    (h : ∀ (n m : Nat) (F T w d : Nat → Nat) (kx sx : Int32) (le lo la : Nat → Int32) (ky bp : Int32) (lg ln pl re : Nat → Int32), rb_Fa n m F T w d kx sx le lo ky bp pl k →
      P (nI n, nI m, kx, sx, rb_A d, rb_A F, rb_A T, rb_A w, le, lo, la) (nI n, nI m, ky, bp, rb_A d, rb_A F, rb_A T, rb_A w, lg, ln, pl, re)) : P u v := by
  obtain ⟨n, m, F, T, w, d, kx, sx, le, lo, la, ky, bp, lg, ln, pl, re, rfl, rfl, hf⟩ := I
  exact h n m F T w d kx sx le lo la ky bp lg ln pl re hf
theorem i_up {k : Nat} {u : SX} {v : SY} (h : i_Rel k u v) : i_Rel (k + 4) u v := by
  refine rb_el (P := fun u v => i_Rel (k + 4) u v) h ?_
  intro n m F T w d kx sx le lo la ky bp lg ln pl re ⟨h1, h2, h3, h4⟩
  exact rb_rel ⟨h1, rb_Gh_up h2, h3, h4⟩
theorem rb_init {n : Nat} (h1 : 1 ≤ n) (h5 : n ≤ 5) : i_Rel 1 (nI n, 0, 0, 0, (fun _ => 0), (fun _ => 0), (fun _ => 0), (fun _ => 0), (fun _ => 0), (fun _ => 0), (fun _ => 0))
    (nI n, 0, 0, 0, (fun _ => 0), (fun _ => 0), (fun _ => 0), (fun _ => 0), (fun _ => 0), (fun _ => 0), (fun _ => 0), (fun _ => 0)) :=
  rb_rel (n := n) (m := 0) (F := fun _ => 0) (T := fun _ => 0) (w := fun _ => 0) (d := fun _ => 0)
    ⟨⟨h1, h5, by omega, fun i hi => by omega, fun i hi => by omega, fun _ => Nat.zero_le _⟩, rb_Gh_0, fun h => absurd rfl h, fun h => absurd rfl h⟩
theorem i_vc0 (k0 : Int32) : wpX_init (fun u => wpY_init (fun v => i_Rel 1 u v) k0) k0 := by
  refine br_c (fun h1 => br_c (fun h5 => ?_) (fun h5 => ?_)) (fun h1 => ?_)
  · refine br_t h1 (br_t h5 ?_)
    have hpos : ¬ k0 < 0 := by
      intro hlt
      have e0 : (0 : Int32).toInt = 0 := by decide
      have e1 : (1 : Int32).toInt = 1 := by decide
      rw [Int32.lt_iff_toInt_lt, e0] at hlt
      rw [Int32.le_iff_toInt_le, e1] at h1
      omega
    obtain ⟨n, hn, e⟩ := nI_of2 (M := 5) (n := 5) (by decide) hpos h5
    subst e
    have h1' : nI 1 ≤ nI n := h1
    rw [nI_leI (by omega) (by omega)] at h1'
    exact rb_init h1' hn
  · exact br_t h1 (br_f h5 (rb_init (n := 5) (by omega) (by omega)))
  · exact br_f h1 (rb_init (n := 1) (by omega) (by omega))
section
variable {n m k : Nat} {F T w d : Nat → Nat} {kx sx : Int32} {le lo la : Nat → Int32} {ky bp : Int32} {lg ln pl re : Nat → Int32}
theorem rb_Fa_up (h : rb_Fa n m F T w d kx sx le lo ky bp pl k) : rb_Fa n m F T w d kx sx le lo ky bp pl (k + 4) := ⟨h.1, rb_Gh_up h.2.1, h.2.2.1, h.2.2.2⟩
theorem rb_Fa_cap (hk : k + 4 ≤ 2049) (h : rb_Fa n m F T w d kx sx le lo ky bp pl k) : rb_cap F T w m := by
  obtain ⟨⟨hn1, hn5, hm12, hF, hT, hd⟩, hG, _, _⟩ := h
  refine ⟨fun i hi => rb_Gh_wcap hF hT hn5 hk hG hi, fun u v q hq hw => ?_⟩
  obtain ⟨q', a, b, c, d, _⟩ := rb_Gh_walk hF hT hn5 hk hG hq hw
  exact ⟨q', a, b, c, d⟩
/-- after a measure on the one side -/
theorem rb_Fa_me {so' : Int32} {le' lo' : Nat → Int32} (h : rb_Fa n m F T w d kx sx le lo ky bp pl k) (hM : rb_Me F T w d m le' lo') (hs : rb_sf F T w m so') :
    rb_Fa n m F T w d 1 so' le' lo' ky bp pl (k + 4) := ⟨h.1, rb_Gh_up h.2.1, fun _ => ⟨rfl, hM, hs⟩, h.2.2.2⟩
/-- .. and a find on the other -/
theorem rb_Fa_mf {so' : Int32} {le' lo' pl' : Nat → Int32} {p : Nat} {t : Nat → Nat} (h : rb_Fa n m F T w d kx sx le lo ky bp pl k) (hM : rb_Me F T w d m le' lo') (hs : rb_sf F T w m so')
    (hO : rb_Op F T w d m n p t) (hl : rb_Ln n pl' t) : rb_Fa n m F T w d 1 so' le' lo' 1 (nI p) pl' (k + 4) := ⟨h.1, rb_Gh_up h.2.1, fun _ => ⟨rfl, hM, hs⟩, fun _ => ⟨rfl, p, t, hO, rfl, hl⟩⟩
theorem rb_Fa_y (h : rb_Fa n m F T w d kx sx le lo ky bp pl k) {p : Nat} {t : Nat → Nat} (hO : rb_Op F T w d m n p t) : ¬ ky = 0 → ky = 1 ∧ bp = nI p ∧ rb_Ln n pl t := by
  intro hy
  obtain ⟨e, p', t', hO', e', hl⟩ := h.2.2.2 hy
  obtain ⟨e1, e2⟩ := rb_Op_un hO hO'
  subst e1; subst e2
  exact ⟨e, e', hl⟩
end
theorem i_vc_delay {k : Nat} {u : SX} {v : SY} (I : i_Rel k u v) (hk : k + 4 ≤ 2049) (v1 : Int32) (v2 : Int32) : wpX_delay (fun r u' => wpY_delay (fun r' v' => r' = r ∧ i_Rel (k + 4) u' v') v v1 v2) u v1 v2 := by
  refine rb_el (P := fun u v => wpX_delay (fun r u' => wpY_delay (fun r' v' => r' = r ∧ i_Rel (k + 4) u' v') v v1 v2) u v1 v2) I ?_
  intro n m F T w d kx sx le lo la ky bp lg ln pl re hf
  have hup := rb_Fa_up hf
  obtain ⟨⟨hn1, hn5, hm12, hF, hT, hd⟩, hG, _, _⟩ := hf
  unfold wpX_delay
  dsimp only
  refine rb_X_isB hn5 (fun x hx e => br_f (by decide) ?_) (fun hno => br_t rfl ?_)
  · subst e
    have ix : vp_in (nI x) 5 := vp_in_nI (by omega) (by omega)
    refine br_c (fun hneg => ?_) (fun hpos => br_c (fun h9 => ?_) (fun h9 => ?_))
    · unfold wpY_delay
      dsimp only
      exact rb_Y_isB hn5 (fun _ _ _ => br_f (by decide) (br_t hneg ⟨rfl, rb_rel hup⟩)) (fun hno => absurd ⟨x, hx, rfl⟩ hno)
    · obtain ⟨y, hy, ey⟩ := nI_of2 (M := 9) (n := 9) (by decide) hpos h9
      subst ey
      refine ⟨ix, fun a ea => ?_⟩
      rw [nI_clamp (n := x) (by omega), rb_byte (by omega), rb_A_upd] at ea
      subst ea
      unfold wpY_delay
      dsimp only
      refine rb_Y_isB hn5 (fun _ _ _ => br_f (by decide) (br_f hpos (br_t h9 ⟨ix, fun b eb => ⟨rfl, ?_⟩⟩))) (fun hno => absurd ⟨x, hx, rfl⟩ hno)
      rw [nI_clamp (n := x) (by omega), rb_A_upd] at eb
      subst eb
      refine rb_rel ⟨⟨hn1, hn5, hm12, hF, hT, fun z => ?_⟩, rb_Gh_delay hG, fun h => absurd rfl h, fun h => absurd rfl h⟩
      show (if z = x then y else d z) ≤ 9
      have := hd z
      split <;> omega
    · unfold wpY_delay
      dsimp only
      exact rb_Y_isB hn5 (fun _ _ _ => br_f (by decide) (br_f hpos (br_f h9 ⟨rfl, rb_rel hup⟩))) (fun hno => absurd ⟨x, hx, rfl⟩ hno)
  · unfold wpY_delay
    dsimp only
    exact rb_Y_isB hn5 (fun x hx e => absurd ⟨x, hx, e⟩ hno) (fun _ => br_t rfl ⟨rfl, rb_rel hup⟩)
theorem i_vc_wire {k : Nat} {u : SX} {v : SY} (I : i_Rel k u v) (hk : k + 4 ≤ 2049) (v1 : Int32) (v2 : Int32) (v3 : Int32) : wpX_wire (fun r u' => wpY_wire (fun r' v' => r' = r ∧ i_Rel (k + 4) u' v') v v1 v2 v3) u v1 v2 v3 := by
  refine rb_el (P := fun u v => wpX_wire (fun r u' => wpY_wire (fun r' v' => r' = r ∧ i_Rel (k + 4) u' v') v v1 v2 v3) u v1 v2 v3) I ?_
  intro n m F T w d kx sx le lo la ky bp lg ln pl re hf
  have hup := rb_Fa_up hf
  obtain ⟨⟨hn1, hn5, hm12, hF, hT, hd⟩, hG, _, _⟩ := hf
  by_cases h12 : m = 12
  · subst h12
    exact br_f (nI_nlt (b := 12) (by omega) (by omega)) (br_t rfl ⟨rfl, rb_rel hup⟩)
  · have hm : m < 12 := by omega
    have ne12 : ¬ nI m = 12 := fun e => h12 ((nI_eq (b := 12) (by omega) (by omega)).mp e)
    have im : vp_in (nI m) 12 := vp_in_nI (by omega) (by omega)
    refine br_t (nI_lt (b := 12) (by omega) (by omega)) ?_
    refine rb_X_isB hn5 (fun x hx e => br_f (by decide) ?_) (fun hno => br_t rfl ?_)
    · subst e
      refine rb_X_isB hn5 (fun y hy e => br_f (by decide) ?_) (fun hno => br_t rfl ?_)
      · subst e
        refine br_c (fun hneg => ?_) (fun hpos => br_c (fun h3 => ?_) (fun h3 => ?_))
        · refine br_f ne12 (rb_Y_isB hn5 (fun _ _ _ => br_f (by decide) ?_) (fun hno => absurd ⟨x, hx, rfl⟩ hno))
          exact rb_Y_isB hn5 (fun _ _ _ => br_f (by decide) (br_t hneg ⟨rfl, rb_rel hup⟩)) (fun hno => absurd ⟨y, hy, rfl⟩ hno)
        · obtain ⟨z, hz, ez⟩ := nI_of2 (M := 3) (n := 3) (by decide) hpos h3
          subst ez
          refine ⟨im, fun a1 e1 => ⟨im, fun a2 e2 => ⟨im, fun a3 e3 a4 e4 => ?_⟩⟩⟩
          rw [nI_clamp (n := m) (by omega), rb_byte (by omega), rb_A_upd] at e1 e2
          rw [nI_clamp (n := m) (by omega), rb_A_upd] at e3
          rw [nI_1] at e4
          subst e1; subst e2; subst e3; subst e4
          refine br_f ne12 (rb_Y_isB hn5 (fun _ _ _ => br_f (by decide) ?_) (fun hno => absurd ⟨x, hx, rfl⟩ hno))
          refine rb_Y_isB hn5 (fun _ _ _ => br_f (by decide) (br_f hpos (br_t h3 ?_))) (fun hno => absurd ⟨y, hy, rfl⟩ hno)
          refine ⟨im, fun b1 e1 => ⟨im, fun b2 e2 => ⟨im, fun b3 e3 b4 e4 => ?_⟩⟩⟩
          rw [nI_clamp (n := m) (by omega), rb_A_upd] at e1 e2 e3
          rw [nI_1] at e4
          subst e1; subst e2; subst e3; subst e4
          refine ⟨rfl, rb_rel ⟨⟨hn1, hn5, by omega, fun i hi => ?_, fun i hi => ?_, hd⟩, ?_, fun h => absurd rfl h, fun h => absurd rfl h⟩⟩
          · show (if i = m then x else F i) < n
            by_cases e : i = m
            · rw [if_pos e]; exact hx
            · rw [if_neg e]; exact hF i (by omega)
          · show (if i = m then y else T i) < n
            by_cases e : i = m
            · rw [if_pos e]; exact hy
            · rw [if_neg e]; exact hT i (by omega)
          · refine rb_Gh_wire (fun i hi => Nat.lt_of_lt_of_le (hF i hi) hn5) (fun i hi => Nat.lt_of_lt_of_le (hT i hi) hn5) (fun i hi => if_neg (by omega)) (fun i hi => if_neg (by omega)) (fun i hi => if_neg (by omega)) ?_ hG
            rw [if_pos rfl]; exact hz
        · refine br_f ne12 (rb_Y_isB hn5 (fun _ _ _ => br_f (by decide) ?_) (fun hno => absurd ⟨x, hx, rfl⟩ hno))
          exact rb_Y_isB hn5 (fun _ _ _ => br_f (by decide) (br_f hpos (br_f h3 ⟨rfl, rb_rel hup⟩))) (fun hno => absurd ⟨y, hy, rfl⟩ hno)
      · refine br_f ne12 (rb_Y_isB hn5 (fun _ _ _ => br_f (by decide) ?_) (fun hno => absurd ⟨x, hx, rfl⟩ hno))
        exact rb_Y_isB hn5 (fun y hy e => absurd ⟨y, hy, e⟩ hno) (fun _ => br_t rfl ⟨rfl, rb_rel hup⟩)
    · refine br_f ne12 ?_
      exact rb_Y_isB hn5 (fun x hx e => absurd ⟨x, hx, e⟩ hno) (fun _ => br_t rfl ⟨rfl, rb_rel hup⟩)
theorem i_vc_cut {k : Nat} {u : SX} {v : SY} (I : i_Rel k u v) (hk : k + 4 ≤ 2049) (v1 : Int32) : wpX_cut (fun r u' => wpY_cut (fun r' v' => r' = r ∧ i_Rel (k + 4) u' v') v v1) u v1 := by
  refine rb_el (P := fun u v => wpX_cut (fun r u' => wpY_cut (fun r' v' => r' = r ∧ i_Rel (k + 4) u' v') v v1) u v1) I ?_
  intro n m F T w d kx sx le lo la ky bp lg ln pl re hf
  have hup := rb_Fa_up hf
  obtain ⟨⟨hn1, hn5, hm12, hF, hT, hd⟩, hG, _, _⟩ := hf
  refine br_c (fun hneg => br_t hneg ⟨rfl, rb_rel hup⟩) (fun hpos => ?_)
  obtain ⟨c, hc, e⟩ := nI_of hpos
  subst e
  refine pk_lt c m (fun hlt => ?_) (fun hge => br_f hpos (br_f (nI_nlt hge (by omega)) ⟨rfl, rb_rel hup⟩))
  obtain ⟨m', em⟩ : ∃ m', m = m' + 1 := ⟨m - 1, by omega⟩
  subst em
  intro x ex
  rw [nI_pred] at ex
  subst ex
  have hx := rb_X_cut26 (post := fun r u' => wpY_cut (fun r' v' => r' = r ∧ i_Rel (k + 4) u' v') (nI n, nI (m' + 1), ky, bp, rb_A d, rb_A F, rb_A T, rb_A w, lg, ln, pl, re) (nI c)) (bc := nI n) (kn := kx) (so := sx) (de := rb_A d) (le := le) (lo := lo) (la := la) (w := w) (c := c) (m := m') (by omega)
    (fun i hi => Nat.lt_of_lt_of_le (hF i hi) hn5) (fun i hi => Nat.lt_of_lt_of_le (hT i hi) hn5) ?_ (m' - c + 1) c (by omega) (by omega) (by omega)
  · rw [rb_cf_0, rb_cf_0, rb_cf_0] at hx
    exact ⟨_, hx⟩
  · refine br_f hpos (br_t (nI_lt hlt (by omega)) ?_)
    have hy := rb_Y_cut16 (post := fun r' v' => r' = nI m' ∧ i_Rel (k + 4) (nI n, nI m', 0, sx, rb_A d, rb_A (rb_cf F c m'), rb_A (rb_cf T c m'), rb_A (rb_cf w c m'), le, lo, la) v') (fn := nI n) (kn := ky) (bp := bp) (de := rb_A d) (lg := lg) (ln := ln) (pl := pl) (re := re) (F := F) (T := T) (w := w) (c := c) (m := m') (by omega) ?_ (m' - c + 1) c (by omega) (by omega) (by omega)
    · rw [rb_cf_0, rb_cf_0, rb_cf_0] at hy
      exact ⟨_, hy⟩
    · have hcf : ∀ (f : Nat → Nat) (i : Nat), i < m' → rb_cf f c m' i = f (if i < c then i else i + 1) := by
        intro f i hi
        unfold rb_cf
        by_cases h : i < c
        · rw [if_neg (by omega), if_pos h]
        · rw [if_pos (by omega), if_neg h]
      refine ⟨rfl, rb_rel ⟨⟨hn1, hn5, by omega, fun i hi => ?_, fun i hi => ?_, hd⟩, rb_Gh_cut (c := c) (by omega) (hcf F) (hcf T) (hcf w) hG, fun h => absurd rfl h, fun h => absurd rfl h⟩⟩
      · rw [hcf F i hi]
        split
        · exact hF i (by omega)
        · exact hF (i + 1) (by omega)
      · rw [hcf T i hi]
        split
        · exact hT i (by omega)
        · exact hT (i + 1) (by omega)
theorem i_vc_sound {k : Nat} {u : SX} {v : SY} (I : i_Rel k u v) (hk : k + 4 ≤ 2049) : wpX_sound (fun r u' => wpY_sound (fun r' v' => r' = r ∧ i_Rel (k + 4) u' v') v) u := by
  refine rb_el (P := fun u v => wpX_sound (fun r u' => wpY_sound (fun r' v' => r' = r ∧ i_Rel (k + 4) u' v') v) u) I ?_
  intro n m F T w d kx sx le lo la ky bp lg ln pl re hf
  have hcap := rb_Fa_cap hk hf
  refine rb_X_measure hf.1 hcap.1 hf.2.2.1 ?_
  intro so' le' lo' hM hs
  rcases hs with ⟨e, hS⟩ | ⟨e, hS⟩
  · subst e
    refine ⟨narrow_b1, ?_⟩
    exact rb_Y_sound hf.1 hcap.1 (fun _ lg' ln' _ => ⟨rfl, rb_rel (rb_Fa_me hf hM (Or.inl ⟨rfl, hS⟩))⟩) (fun h => absurd hS h)
  · subst e
    refine ⟨narrow_b0, ?_⟩
    exact rb_Y_sound hf.1 hcap.1 (fun h => absurd h hS) (fun _ lg' ln' => ⟨rfl, rb_rel (rb_Fa_me hf hM (Or.inr ⟨rfl, hS⟩))⟩)
theorem i_vc_period {k : Nat} {u : SX} {v : SY} (I : i_Rel k u v) (hk : k + 4 ≤ 2049) : wpX_period (fun r u' => wpY_period (fun r' v' => r' = r ∧ i_Rel (k + 4) u' v') v) u := by
  refine rb_el (P := fun u v => wpX_period (fun r u' => wpY_period (fun r' v' => r' = r ∧ i_Rel (k + 4) u' v') v) u) I ?_
  intro n m F T w d kx sx le lo la ky bp lg ln pl re hf
  have hcap := rb_Fa_cap hk hf
  refine rb_X_period hf.1 hcap hf.2.2.1 (fun hS so' le' lo' hM hs => ?_) (fun hS P so' le' lo' hp hM hs => ?_)
  · exact rb_Y_sound hf.1 hcap.1 (fun h => absurd h hS) (fun _ lg' ln' => br_t rfl ⟨rfl, rb_rel (rb_Fa_me hf hM hs)⟩)
  · refine rb_Y_sound hf.1 hcap.1 (fun _ lg' ln' hla => br_f (by decide) ?_) (fun h => absurd hS h)
    refine rb_Y_longest hf.1 hcap.1 hS (fun i _ => Nat.zero_le _) hla (fun _ => Nat.zero_le _) (fun P' ln2 hp' _ => ?_)
    have e := rb_pt_un hp hp'
    subst e
    exact ⟨rfl, rb_rel (rb_Fa_me hf hM hs)⟩
theorem i_vc_best {k : Nat} {u : SX} {v : SY} (I : i_Rel k u v) (hk : k + 4 ≤ 2049) : wpX_best (fun r u' => wpY_best (fun r' v' => r' = r ∧ i_Rel (k + 4) u' v') v) u := by
  refine rb_el (P := fun u v => wpX_best (fun r u' => wpY_best (fun r' v' => r' = r ∧ i_Rel (k + 4) u' v') v) u) I ?_
  intro n m F T w d kx sx le lo la ky bp lg ln pl re hf
  have hcap := rb_Fa_cap hk hf
  refine rb_X_best hf.1 hcap hf.2.2.1 (fun hS so' le' lo' la' hM hs => ?_) (fun hS p t so' le' lo' la' hO hM hs => ?_)
  · exact rb_Y_sound hf.1 hcap.1 (fun h => absurd h hS) (fun _ lg' ln' => br_t rfl ⟨rfl, rb_rel (rb_Fa_me hf hM hs)⟩)
  · refine rb_Y_sound hf.1 hcap.1 (fun _ lg' ln' hla => br_f (by decide) ?_) (fun h => absurd hS h)
    exact rb_Y_find hf.1 hcap.1 hS hO (rb_Fa_y hf hO) (fun lg2 ln2 pl2 hl => ⟨rfl, rb_rel (rb_Fa_mf hf hM hs hO hl)⟩)
theorem i_vc_lag {k : Nat} {u : SX} {v : SY} (I : i_Rel k u v) (hk : k + 4 ≤ 2049) (v1 : Int32) : wpX_lag (fun r u' => wpY_lag (fun r' v' => r' = r ∧ i_Rel (k + 4) u' v') v v1) u v1 := by
  refine rb_el (P := fun u v => wpX_lag (fun r u' => wpY_lag (fun r' v' => r' = r ∧ i_Rel (k + 4) u' v') v v1) u v1) I ?_
  intro n m F T w d kx sx le lo la ky bp lg ln pl re hf
  have hcap := rb_Fa_cap hk hf
  have hn5 := hf.1.2.1
  unfold wpX_lag
  dsimp only
  refine rb_X_isB hn5 (fun x hx e => br_f (by decide) ?_) (fun hno => br_t rfl ?_)
  · subst e
    have ix : vp_in (nI x) 5 := vp_in_nI (by omega) (by omega)
    have ex : (nI x).toNatClampNeg = x := nI_clamp (by omega)
    refine rb_X_best hf.1 hcap hf.2.2.1 (fun hS so' le' lo' la' hM hs => br_t rfl ?_) (fun hS p t so' le' lo' la' hO hM hs => ?_)
    · unfold wpY_lag
      dsimp only
      refine rb_Y_isB hn5 (fun _ _ _ => br_f (by decide) ?_) (fun hno => absurd ⟨x, hx, rfl⟩ hno)
      exact rb_Y_sound hf.1 hcap.1 (fun h => absurd h hS) (fun _ lg' ln' => br_t rfl ⟨rfl, rb_rel (rb_Fa_me hf hM hs)⟩)
    · have hp45 := rb_Op_45 hf.1 hS hO
      refine br_f (rb_ne3 (by omega)) ?_
      refine rb_X_canReach hf.1 hcap hS hM (fun p' t' la2 e hp' hL hla => ?_) (fun la2 hno => absurd hO.1.1 (hno p t rfl (by omega)))
      have e' : p = p' := (nI_eq (by omega) hp').mp e
      subst e'
      have e2 := rb_Le_un hL hO.1
      subst e2
      refine ⟨ix, ?_⟩
      unfold wpY_lag
      dsimp only
      refine rb_Y_isB hn5 (fun _ _ _ => br_f (by decide) ?_) (fun hno => absurd ⟨x, hx, rfl⟩ hno)
      refine rb_Y_sound hf.1 hcap.1 (fun _ lg' ln' _ => br_f (by decide) ?_) (fun h => absurd hS h)
      refine rb_Y_find hf.1 hcap.1 hS hO (rb_Fa_y hf hO) (fun lg2 ln2 pl2 hl => ⟨ix, ?_, rb_rel (rb_Fa_mf hf hM hs hO hl)⟩)
      show pl2 (nI x).toNatClampNeg = la2 (nI x).toNatClampNeg
      rw [ex, hl x hx, hla x (by omega)]
  · unfold wpY_lag
    dsimp only
    exact rb_Y_isB hn5 (fun x hx e => absurd ⟨x, hx, e⟩ hno) (fun _ => br_t rfl ⟨rfl, rb_rel (rb_Fa_up hf)⟩)
theorem i_vc_reachable {k : Nat} {u : SX} {v : SY} (I : i_Rel k u v) (hk : k + 4 ≤ 2049) (v1 : Int32) : wpX_reachable (fun r u' => wpY_reachable (fun r' v' => r' = r ∧ i_Rel (k + 4) u' v') v v1) u v1 := by
  refine rb_el (P := fun u v => wpX_reachable (fun r u' => wpY_reachable (fun r' v' => r' = r ∧ i_Rel (k + 4) u' v') v v1) u v1) I ?_
  intro n m F T w d kx sx le lo la ky bp lg ln pl re hf
  have hcap := rb_Fa_cap hk hf
  have hC := hf.1
  refine rb_X_measure hC hcap.1 hf.2.2.1 ?_
  intro so' le' lo' hM hs
  refine br_c (fun h0 => ?_) (fun h0 => ?_)
  · exact rb_Y_sound hC hcap.1 (fun h => absurd h (rb_sf_0 hs h0)) (fun _ lg' ln' => br_t rfl ⟨rfl, rb_rel (rb_Fa_me hf hM hs)⟩)
  · have hS := rb_sf_1 hs h0
    obtain ⟨p, t, hO⟩ := rb_Op_ex hC.2.2.2.1 hC.2.2.2.2.1 (rb_Fe_0 hC.2.2.2.1 hC.2.2.2.2.1 hC.2.1 hC.2.2.2.2.2 hS)
    have hp45 := rb_Op_45 hC hS hO
    refine rb_X_canReach hC hcap hS hM (fun p' t' la2 e hp' hL hla => br_f (by decide) ?_) (fun la2 hno => br_t rfl ?_)
    · subst e
      refine rb_Y_sound hC hcap.1 (fun _ lg' ln' _ => br_f (by decide) ?_) (fun h => absurd hS h)
      refine rb_Y_find hC hcap.1 hS hO (rb_Fa_y hf hO) (fun lg2 ln2 pl2 hl => ?_)
      have := hO.2 p' t' hL.1
      exact br_f (nI_nlt (by omega) (by omega)) ⟨rfl, rb_rel (rb_Fa_mf hf hM hs hO hl)⟩
    · refine rb_Y_sound hC hcap.1 (fun _ lg' ln' _ => br_f (by decide) ?_) (fun h => absurd hS h)
      refine rb_Y_find hC hcap.1 hS hO (rb_Fa_y hf hO) (fun lg2 ln2 pl2 hl => ?_)
      have hlt : v1 < nI p := by
        refine Classical.byContradiction fun hn => ?_
        have hpos : ¬ v1 < 0 := by
          intro hneg
          apply hn
          have e0 : (0 : Int32).toInt = 0 := by decide
          rw [Int32.lt_iff_toInt_lt, e0] at hneg
          rw [Int32.lt_iff_toInt_lt, nI_toInt (by omega)]
          omega
        obtain ⟨p', hp', e⟩ := nI_of hpos
        subst e
        rw [nI_ltI hp' (by omega)] at hn
        exact hno p' t rfl hp' (rb_Fe_mono (by omega) hO.1.1)
      exact br_t hlt ⟨rfl, rb_rel (rb_Fa_mf hf hM hs hO hl)⟩
theorem i_vc_apply {k : Nat} {u : SX} {v : SY} (I : i_Rel k u v) (hk : k + 4 ≤ 2049) : wpX_apply (fun r u' => wpY_apply (fun r' v' => r' = r ∧ i_Rel (k + 4) u' v') v) u := by
  refine rb_el (P := fun u v => wpX_apply (fun r u' => wpY_apply (fun r' v' => r' = r ∧ i_Rel (k + 4) u' v') v) u) I ?_
  intro n m F T w d kx sx le lo la ky bp lg ln pl re hf
  have hcap := rb_Fa_cap hk hf
  have hC := hf.1
  unfold wpX_apply
  dsimp only
  refine rb_X_best hC hcap hf.2.2.1 (fun hS so' le' lo' la' hM hs => br_t rfl ?_) (fun hS p t so' le' lo' la' hO hM hs => ?_)
  · exact rb_Y_sound hC hcap.1 (fun h => absurd h hS) (fun _ lg' ln' => br_t rfl ⟨rfl, rb_rel (rb_Fa_me hf hM hs)⟩)
  · have hp45 := rb_Op_45 hC hS hO
    have hl := hO.1.1.1
    have ht : ∀ x, t x ≤ 4 := rb_le4 hC.2.2.2.1 hC.2.2.2.2.1 hC.2.1 hO.1
    refine br_f (rb_ne3 (by omega)) ?_
    refine rb_X_canReach hC hcap hS hM (fun p' t' la2 e hp' hL hla => ?_) (fun la2 hno => absurd hO.1.1 (hno p t rfl (by omega)))
    have e' : p = p' := (nI_eq (by omega) hp').mp e
    subst e'
    have e2 := rb_Le_un hL hO.1
    subst e2
    refine ⟨m + 1, ?_⟩
    have hx := rb_X_24 (post := fun r u' => wpY_apply (fun r' v' => r' = r ∧ i_Rel (k + 4) u' v') (nI n, nI m, ky, bp, rb_A d, rb_A F, rb_A T, rb_A w, lg, ln, pl, re)) (bc := nI n) (kn := 1) (so := so') (de := rb_A d) (le := le') (lo := lo') hC hcap.1 hl ht hla ?_ (m + 1) 0 (by omega) (by omega)
    · rw [rb_wa_0] at hx
      exact hx
    · refine rb_Y_sound hC hcap.1 (fun _ lg' ln' _ => br_f (by decide) ?_) (fun h => absurd hS h)
      refine rb_Y_find hC hcap.1 hS hO (rb_Fa_y hf hO) (fun lg2 ln2 pl2 hl2 => ⟨m + 1, ?_⟩)
      have hy := rb_Y_18 (post := fun r' v' => r' = rb_gs F T t' m ∧ i_Rel (k + 4) (nI n, nI m, 0, so', rb_A d, rb_A F, rb_A T, rb_A (rb_wa F T w t' m), le', lo', la2) v') (fn := nI n) (kn := 1) (bp := nI p) (de := rb_A d) (lg := lg2) (ln := ln2) (re := re) hC hcap.1 hl ht hl2 ?_ (m + 1) 0 (by omega) (by omega)
      · rw [rb_wa_0] at hy
        exact hy
      · refine ⟨rfl, rb_rel ⟨hC, rb_Gh_apply hC.2.2.2.1 hC.2.2.2.2.1 hC.2.1 hS hO (fun i hi => ?_) hf.2.1, fun h => absurd rfl h, fun h => absurd rfl h⟩⟩
        have := hl i hi
        show (if i < m then w i + t' (F i) - t' (T i) else w i) + t' (T i) = w i + t' (F i)
        rw [if_pos hi]
        omega
theorem i_vc_registers {k : Nat} {u : SX} {v : SY} (I : i_Rel k u v) (hk : k + 4 ≤ 2049) (v1 : Int32) : wpX_registers (fun r => wpY_registers (fun r' => r' = r ∧ i_Rel (k + 4) u v) v v1) u v1 := by
  refine rb_el (P := fun u v => wpX_registers (fun r => wpY_registers (fun r' => r' = r ∧ i_Rel (k + 4) u v) v v1) u v1) I ?_
  intro n m F T w d kx sx le lo la ky bp lg ln pl re hf
  have hup := rb_rel (la := la) (lg := lg) (ln := ln) (re := re) (rb_Fa_up hf)
  have hm12 := hf.1.2.2.1
  refine br_c (fun hneg => br_t hneg ⟨rfl, hup⟩) (fun hpos => ?_)
  obtain ⟨c, hc, e⟩ := nI_of hpos
  subst e
  refine pk_lt c m (fun hlt => ?_) (fun hge => br_f hpos (br_t (nI_le hge (by omega)) ⟨rfl, hup⟩))
  have ic : vp_in (nI c) 12 := vp_in_nI (by omega) (by omega)
  exact ⟨ic, br_f hpos (br_f (nI_ge hlt (by omega)) ⟨ic, rfl, hup⟩)⟩
theorem i_vc_fewest {k : Nat} {u : SX} {v : SY} (I : i_Rel k u v) (hk : k + 4 ≤ 2049) (v1 : Int32) (v2 : Int32) : wpX_fewest (fun r u' => wpY_fewest (fun r' v' => r' = r ∧ i_Rel (k + 4) u' v') v v1 v2) u v1 v2 := by
  refine rb_el (P := fun u v => wpX_fewest (fun r u' => wpY_fewest (fun r' v' => r' = r ∧ i_Rel (k + 4) u' v') v v1 v2) u v1 v2) I ?_
  intro n m F T w d kx sx le lo la ky bp lg ln pl re hf
  have hcap := rb_Fa_cap hk hf
  have hC := hf.1
  have hn5 := hC.2.1
  have hup := rb_Fa_up hf
  unfold wpX_fewest
  dsimp only
  refine rb_X_isB hn5 (fun x hx e => br_f (by decide) ?_) (fun hno => br_t rfl ?_)
  · subst e
    refine rb_X_isB hn5 (fun y hy e => br_f (by decide) ?_) (fun hno => br_t rfl ?_)
    · subst e
      refine rb_X_measure hC hcap.1 hf.2.2.1 ?_
      intro so' le' lo' hM hs
      have e5 : (5 : Int32) * nI x + nI y = nI (5 * x + y) := by show nI 5 * nI x + nI y = _; rw [pk_mul, nI_add]
      have i5 : vp_in (nI (5 * x + y)) 25 := vp_in_nI (by omega) (by omega)
      dsimp only
      rw [e5, nI_clamp (n := 5 * x + y) (by omega)]
      obtain ⟨l, D, e1, e2, e3, e4, e5'⟩ := hM x y (by omega) (by omega)
      rw [e1]
      refine ⟨i5, pk_lt l 1000 (fun hlt => ⟨i5, ?_⟩) (fun hge => ?_)⟩
      · unfold wpY_fewest
        dsimp only
        refine rb_Y_isB hn5 (fun _ _ _ => br_f (by decide) ?_) (fun hno => absurd ⟨x, hx, rfl⟩ hno)
        refine rb_Y_isB hn5 (fun _ _ _ => br_f (by decide) ?_) (fun hno => absurd ⟨y, hy, rfl⟩ hno)
        refine ⟨6, rb_Y_20 (fun re1 hr1 => ⟨7, ?_⟩) 6 0 re (by omega) (by omega) (fun z hz => by omega)⟩
        refine rb_Y_40 hC hcap.1 hx hy (fun re2 hno => ?_) (fun re2 l2 hex hmin => ?_) 7 0 (fun _ => 1000000) re1 (by omega) (by omega)
          ⟨fun z hz => Or.inl rfl, fun z q hz hq hw hl => absurd (List.eq_nil_of_length_eq_zero (by omega)) hq⟩ (fun z hz => by rw [hr1 z (by omega)]; exact rb_rc_top.symm)
        · obtain ⟨q, hq, hw, _⟩ := e4 hlt
          exact absurd (hno q hq hw) id
        · obtain ⟨q, hq, hw, hr, _⟩ := e4 hlt
          obtain ⟨q2, hq2, hw2, hr2⟩ := hex
          have k1 := hmin q hq hw
          have k2 := (e5' q2 hq2 hw2 trivial (by omega)).1
          have ee : l2 = l := by omega
          subst ee
          exact ⟨rfl, rb_rel (rb_Fa_me hf hM hs)⟩
      · unfold wpY_fewest
        dsimp only
        refine rb_Y_isB hn5 (fun _ _ _ => br_f (by decide) ?_) (fun hno => absurd ⟨x, hx, rfl⟩ hno)
        refine rb_Y_isB hn5 (fun _ _ _ => br_f (by decide) ?_) (fun hno => absurd ⟨y, hy, rfl⟩ hno)
        refine ⟨6, rb_Y_20 (fun re1 hr1 => ⟨7, ?_⟩) 6 0 re (by omega) (by omega) (fun z hz => by omega)⟩
        refine rb_Y_40 hC hcap.1 hx hy (fun re2 hno => ⟨rfl, rb_rel (rb_Fa_me hf hM hs)⟩) (fun re2 l2 hex hmin => ?_) 7 0 (fun _ => 1000000) re1 (by omega) (by omega)
          ⟨fun z hz => Or.inl rfl, fun z q hz hq hw hl => absurd (List.eq_nil_of_length_eq_zero (by omega)) hq⟩ (fun z hz => by rw [hr1 z (by omega)]; exact rb_rc_top.symm)
        obtain ⟨q2, hq2, hw2, hr2⟩ := hex
        obtain ⟨q3, hq3, hw3, hr3, hr4⟩ := hcap.2 x y q2 hq2 hw2
        have k2 := (e5' q3 hq3 hw3 trivial hr4).1
        exfalso
        clear e4 e5'
        omega
    · unfold wpY_fewest
      dsimp only
      refine rb_Y_isB hn5 (fun _ _ _ => br_f (by decide) ?_) (fun hno => absurd ⟨x, hx, rfl⟩ hno)
      exact rb_Y_isB hn5 (fun y hy e => absurd ⟨y, hy, e⟩ hno) (fun _ => br_t rfl ⟨rfl, rb_rel hup⟩)
  · unfold wpY_fewest
    dsimp only
    exact rb_Y_isB hn5 (fun x hx e => absurd ⟨x, hx, e⟩ hno) (fun _ => br_t rfl ⟨rfl, rb_rel hup⟩)
end
