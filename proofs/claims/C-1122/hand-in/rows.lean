section
/-! pure rows to paste: stores, nI and lN arithmetic, masks, shifts, narrowing, branches by naturals (pk_le, pk_lt, pk_eq), loops (lp1 .. lp16: the measure of the state; rp1 ..: recursion), negatives. Take what you need -/
theorem pk_us {f : Nat → Int32} {k : Nat} {x : Int32} : upd f k x k = x := if_pos rfl
theorem pk_un {f : Nat → Int32} {k j : Nat} {x : Int32} (h : j ≠ k) : upd f k x j = f j := if_neg h
theorem pk_uLs {f : Nat → Int64} {k : Nat} {x : Int64} : vp_updL f k x k = x := if_pos rfl
theorem pk_uLn {f : Nat → Int64} {k j : Nat} {x : Int64} (h : j ≠ k) : vp_updL f k x j = f j := if_neg h
theorem pk_sub {a b : Nat} (h : b ≤ a) : nI a - nI b = nI (a - b) := by
  obtain ⟨c, rfl⟩ : ∃ c, a = c + b := ⟨a - b, by omega⟩
  rw [← nI_add, Int32.add_sub_cancel, Nat.add_sub_cancel]
theorem pk_m1 (n : Nat) : nI (n + 1) + (-1) = nI n := by
  rw [← nI_1, Int32.add_assoc, show (1 : Int32) + (-1) = 0 from rfl, Int32.add_zero]
theorem pk_mul (a b : Nat) : nI a * nI b = nI (a * b) := (Int32.ofNat_mul a b).symm
theorem pk_div {a d : Nat} (ha : a < 2 ^ 31) (h0 : 0 < d) (hd : d < 2 ^ 31) : nI a / nI d = nI (a / d) := by
  apply Int32.toInt_inj.mp
  rw [lg_idiv_nonneg (by rw [nI_toInt ha]; omega) (by rw [nI_toInt hd]; omega), nI_toInt ha, nI_toInt hd, nI_toInt (Nat.lt_of_le_of_lt (Nat.div_le_self a d) ha)]
  first | rfl | exact (Int.natCast_ediv _ _).symm
theorem pk_rem {a d : Nat} (ha : a < 2 ^ 31) (h0 : 0 < d) (hd : d < 2 ^ 31) : nI a - nI a / nI d * nI d = nI (a % d) := by
  rw [pk_div ha h0 hd, pk_mul, pk_sub (Nat.div_mul_le_self a d)]
  exact congrArg nI (by have := Nat.div_add_mod' a d; omega)
theorem pk_sub_toInt {a b : Nat} (ha : a < 2 ^ 30) (hb : b < 2 ^ 30) : (nI a - nI b).toInt = (a : Int) - b := by
  rw [Int32.toInt_sub, nI_toInt (by omega), nI_toInt (by omega)]
  exact Int.bmod_eq_of_le (by omega) (by omega)
theorem pk_sneg {a b : Nat} (hb : b < 2 ^ 30) (h : a < b) : nI a - nI b < 0 := by
  rw [Int32.lt_iff_toInt_lt, pk_sub_toInt (by omega) hb, show (0 : Int32).toInt = 0 from by decide]
  omega
theorem pk_ix (x : Int32) {n : Nat} (hn : n < 2 ^ 31) : x < 0 ∨ nI n ≤ x ∨ ∃ j : Nat, j < n ∧ x = nI j := by
  by_cases h : x < 0
  · exact Or.inl h
  · obtain ⟨j, hj, rfl⟩ := nI_of h
    by_cases h2 : j < n
    · exact Or.inr (Or.inr ⟨j, h2, rfl⟩)
    · exact Or.inr (Or.inl (nI_le (by omega) hj))
theorem pk_le {x y : Int32} {A B : Prop} (a b : Nat) (f : a ≤ b → A) (g : b < a → B) (hx : x = nI a := by rfl) (hy : y = nI b := by rfl) (ha : a < 2 ^ 31 := by omega) (hb : b < 2 ^ 31 := by omega) : (x ≤ y → A) ∧ (¬ x ≤ y → B) := by
  subst hx hy
  rw [nI_leI ha hb]
  exact ⟨f, fun z => g (by omega)⟩
theorem pk_lt {x y : Int32} {A B : Prop} (a b : Nat) (f : a < b → A) (g : b ≤ a → B) (hx : x = nI a := by rfl) (hy : y = nI b := by rfl) (ha : a < 2 ^ 31 := by omega) (hb : b < 2 ^ 31 := by omega) : (x < y → A) ∧ (¬ x < y → B) := by
  subst hx hy
  rw [nI_ltI ha hb]
  exact ⟨f, fun z => g (by omega)⟩
theorem pk_eq {x y : Int32} {A B : Prop} (a b : Nat) (f : a = b → A) (g : a ≠ b → B) (hx : x = nI a := by rfl) (hy : y = nI b := by rfl) (ha : a < 2 ^ 31 := by omega) (hb : b < 2 ^ 31 := by omega) : (x = y → A) ∧ (¬ x = y → B) := by
  subst hx hy
  rw [nI_eq ha hb]
  exact ⟨f, g⟩
theorem pk_in {x : Int32} (n N : Nat) (h : n < N) (hx : x = nI n := by rfl) (hN : N < 2 ^ 31 := by omega) : vp_in x N := by
  subst hx
  exact vp_in_nI h hN
theorem pk_cl {x : Int32} (n : Nat) (hx : x = nI n := by rfl) (h : n < 2 ^ 31 := by omega) : x.toNatClampNeg = n := by
  subst hx
  exact nI_clamp h
theorem pk_tn {n : Nat} (h : n < 2 ^ 32) : (nI n).toBitVec.toNat = n := Nat.mod_eq_of_lt h
theorem pk_and (x : Int32) {m : Int32} (k : Nat) (hm : m.toBitVec.toNat = 2 ^ k - 1) : x &&& m = nI (x.toBitVec.toNat % 2 ^ k) := by
  apply Int32.toBitVec_inj.mp
  apply BitVec.eq_of_toNat_eq
  rw [Int32.toBitVec_and, BitVec.toNat_and, hm, Nat.and_two_pow_sub_one_eq_mod]
  show _ = (BitVec.ofNat 32 _).toNat
  rw [BitVec.toNat_ofNat]
  exact (Nat.mod_eq_of_lt (Nat.lt_of_le_of_lt (Nat.mod_le _ _) x.toBitVec.isLt)).symm
theorem pk_andN {n : Nat} (h : n < 2 ^ 32) {m : Int32} (k : Nat) (hm : m.toBitVec.toNat = 2 ^ k - 1) : nI n &&& m = nI (n % 2 ^ k) := by
  rw [pk_and _ k hm, pk_tn h]
theorem pk_andE (x : Int32) {m : Int32} (k : Nat) (hm : m.toBitVec.toNat = 2 ^ k - 1) : ∃ j : Nat, j < 2 ^ k ∧ x &&& m = nI j := ⟨_, Nat.mod_lt _ (Nat.two_pow_pos k), pk_and x k hm⟩
theorem pk_andIn (x : Int32) {m : Int32} (k : Nat) (hm : m.toBitVec.toNat = 2 ^ k - 1) (hk : k ≤ 30) : vp_in (x &&& m) (2 ^ k) := by
  obtain ⟨j, hj, e⟩ := pk_andE x k hm
  rw [e]
  exact vp_in_nI hj (Nat.lt_of_le_of_lt (Nat.pow_le_pow_right (by decide) hk) (by decide))
theorem pk_shl (a s : Int32) (k : Nat) (hs : (s.toBitVec.smod 32).toNat = k) : (a <<< s).toBitVec.toNat = a.toBitVec.toNat * 2 ^ k % 2 ^ 32 := by
  show (a.toBitVec <<< (s.toBitVec.smod 32).toNat).toNat = _
  rw [hs, BitVec.toNat_shiftLeft, Nat.shiftLeft_eq]
theorem pk_shlN {n : Nat} (s : Int32) (k : Nat) (hs : (s.toBitVec.smod 32).toNat = k) (h : n * 2 ^ k < 2 ^ 32) : nI n <<< s = nI (n * 2 ^ k) := by
  apply Int32.toBitVec_inj.mp
  apply BitVec.eq_of_toNat_eq
  have hn : n < 2 ^ 32 := Nat.lt_of_le_of_lt (Nat.le_mul_of_pos_right n (Nat.two_pow_pos k)) h
  rw [pk_shl _ _ k hs, pk_tn hn, pk_tn h, Nat.mod_eq_of_lt h]
theorem pk_shr (a s : Int32) (k : Nat) (hs : (s.toBitVec.smod 32).toNat = k) : (a >>> s).toInt = a.toInt >>> k := by
  show (a.toBitVec.sshiftRight (s.toBitVec.smod 32).toNat).toInt = _
  rw [hs, BitVec.toInt_sshiftRight]
  rfl
theorem pk_shrN {n : Nat} (h : n < 2 ^ 31) (s : Int32) (k : Nat) (hs : (s.toBitVec.smod 32).toNat = k) : nI n >>> s = nI (n / 2 ^ k) := by
  apply Int32.toInt_inj.mp
  have h2 : n / 2 ^ k ≤ n := Nat.div_le_self _ _
  rw [pk_shr _ _ k hs, nI_toInt h, nI_toInt (by omega), Int.shiftRight_eq_div_pow]
  rfl
theorem pk_ushr (x s : Int32) (k : Nat) (hs : ((s.toUInt32 &&& Int32.toUInt32 31).toBitVec % 32).toNat = k) : (x.toUInt32 >>> (s.toUInt32 &&& Int32.toUInt32 31)).toInt32.toBitVec.toNat = x.toBitVec.toNat / 2 ^ k := by
  have e : (x.toUInt32 >>> (s.toUInt32 &&& Int32.toUInt32 31)).toInt32.toBitVec = x.toBitVec >>> k := by
    rw [← hs]
    exact UInt32.toBitVec_shiftRight _ _
  rw [e, BitVec.toNat_ushiftRight, Nat.shiftRight_eq_div_pow]
theorem pk_ushrN {n : Nat} (hn : n < 2 ^ 32) (s : Int32) (k : Nat) (hs : ((s.toUInt32 &&& Int32.toUInt32 31).toBitVec % 32).toNat = k) : ((nI n).toUInt32 >>> (s.toUInt32 &&& Int32.toUInt32 31)).toInt32 = nI (n / 2 ^ k) := by
  apply Int32.toBitVec_inj.mp
  apply BitVec.eq_of_toNat_eq
  rw [pk_ushr _ s k hs, pk_tn hn, pk_tn (Nat.lt_of_le_of_lt (Nat.div_le_self _ _) hn)]
theorem pk_nb (z : Int32) : narrow .byte (.int z.toInt8.toInt32) = .int z.toInt8.toInt32 := congrArg Value.int (by simp)
theorem pk_ns (z : Int32) : narrow .short (.int z.toInt16.toInt32) = .int z.toInt16.toInt32 := congrArg Value.int (by simp)
theorem pk_fb (r : Int32) : fits .byte (.int r.toInt8.toInt32) = true := by
  have ⟨a, b⟩ := lg_i2b_range r
  have h1 : (-128 : Int32).toInt = -128 := by decide
  have h2 : (127 : Int32).toInt = 127 := by decide
  simp only [fits, Bool.and_eq_true, decide_eq_true_eq, Int32.le_iff_toInt_le, h1, h2]
  omega
theorem pk_fs (r : Int32) : fits .short (.int r.toInt16.toInt32) = true := by
  have ⟨a, b⟩ := lg_i2s_range r
  have h1 : (-32768 : Int32).toInt = -32768 := by decide
  have h2 : (32767 : Int32).toInt = 32767 := by decide
  simp only [fits, Bool.and_eq_true, decide_eq_true_eq, Int32.le_iff_toInt_le, h1, h2]
  omega
theorem pk_charN {q : Nat} (hq : q < 65536) : narrow .char (.int (nI q)) = .int (nI q) ∧ fits .char (.int (nI q)) = true := by
  constructor
  · have e : (nI q).toUInt32.toUInt16.toUInt32.toInt32 = nI q := by
      apply Int32.toBitVec_inj.mp
      apply BitVec.eq_of_toNat_eq
      show (nI q).toUInt32.toUInt16.toUInt32.toNat = q % 2 ^ 32
      rw [UInt16.toNat_toUInt32, UInt32.toNat_toUInt16, show (nI q).toUInt32.toNat = q % 2 ^ 32 from rfl]
      omega
    exact congrArg Value.int e
  · have a : (0 : Int32) ≤ nI q := nI_pos' (by omega)
    have b : nI q ≤ 65535 := nI_le (b := 65535) (by omega) (by decide)
    show (decide ((0 : Int32) ≤ nI q) && decide (nI q ≤ 65535)) = true
    rw [decide_eq_true a, decide_eq_true b]
    rfl
theorem pk_char (x : Int32) : (x.toUInt32 % 65536).toInt32 = nI (x.toBitVec.toNat % 65536) := by
  apply Int32.toBitVec_inj.mp
  apply BitVec.eq_of_toNat_eq
  rw [pk_tn (by omega)]
  show (x.toUInt32 % 65536).toNat = _
  rw [UInt32.toNat_mod]
  rfl
theorem pk_nc (x : Int32) : narrow .char (.int (x.toUInt32 % 65536).toInt32) = .int (x.toUInt32 % 65536).toInt32 := by
  rw [pk_char]
  exact (pk_charN (Nat.mod_lt _ (by decide))).1
theorem pk_fc (x : Int32) : fits .char (.int (x.toUInt32 % 65536).toInt32) = true := by
  rw [pk_char]
  exact (pk_charN (Nat.mod_lt _ (by decide))).2
theorem pk_vb (z : Int32) : vp_nar .byte z.toInt8.toInt32 = z.toInt8.toInt32 := by rw [vp_nar_byte]; simp
theorem pk_vs (z : Int32) : vp_nar .short z.toInt16.toInt32 = z.toInt16.toInt32 := by rw [vp_nar_short]; simp
theorem pk_vc (z : Int32) : vp_nar .char (z.toUInt32 % 65536).toInt32 = (z.toUInt32 % 65536).toInt32 := Value.int.inj (pk_nc z)
theorem pk_lT {n : Nat} (h : n < 2 ^ 63) : (lN n).toInt = (n : Int) := lg_ofNat_toInt h
theorem pk_lLT {a b : Nat} (ha : a < 2 ^ 63) (hb : b < 2 ^ 63) : lN a < lN b ↔ a < b := by
  rw [Int64.lt_iff_toInt_lt, pk_lT ha, pk_lT hb]; omega
theorem pk_lLE {a b : Nat} (ha : a < 2 ^ 63) (hb : b < 2 ^ 63) : lN a ≤ lN b ↔ a ≤ b := by
  rw [Int64.le_iff_toInt_le, pk_lT ha, pk_lT hb]; omega
theorem pk_lEQ {a b : Nat} (ha : a < 2 ^ 63) (hb : b < 2 ^ 63) : lN a = lN b ↔ a = b := by
  rw [← Int64.toInt_inj, pk_lT ha, pk_lT hb]; omega
theorem pk_lOf {x : Int64} (h : ¬ x < 0) : ∃ k : Nat, k < 2 ^ 63 ∧ x = lN k := by
  rw [Int64.lt_iff_toInt_lt] at h
  have h0 : (0 : Int64).toInt = 0 := by decide
  have hx := Int64.toInt_lt x
  refine ⟨x.toInt.toNat, by omega, Int64.toInt_inj.mp ?_⟩
  rw [pk_lT (by omega)]
  omega
theorem pk_lDiv {a b : Nat} (ha : a < 2 ^ 63) (h0 : 0 < b) (hb : b < 2 ^ 63) : lN a / lN b = lN (a / b) := by
  apply Int64.toInt_inj.mp
  rw [lg_ldiv_nonneg (by rw [pk_lT ha]; omega) (by rw [pk_lT hb]; omega), pk_lT ha, pk_lT hb, pk_lT (Nat.lt_of_le_of_lt (Nat.div_le_self a b) ha)]
  rfl
theorem pk_lRem {a b : Nat} (ha : a < 2 ^ 63) (h0 : 0 < b) (hb : b < 2 ^ 63) : lN a - lN a / lN b * lN b = lN (a % b) := by
  rw [pk_lDiv ha h0 hb, lN_mul, lN_sub (Nat.div_mul_le_self a b)]
  exact congrArg lN (by have := Nat.div_add_mod' a b; omega)
theorem pk_loop {σ : Type} (W : Nat → Nat → σ → Prop) (I : Nat → σ → Prop) (e i0 : Nat) (s : σ) (hi : i0 ≤ e) (h0 : I i0 s) (hx : ∀ n s, I e s → W (n + 1) e s)
    (hs : ∀ n i s, i < e → I i s → (∀ s', I (i + 1) s' → W n (i + 1) s') → W (n + 1) i s) : ∃ n, W n i0 s :=
  ⟨e + 1, loop_i W I e hx hs (e + 1) i0 s hi (by omega) h0⟩
theorem pk_loopD {σ : Type} (W : Nat → Nat → σ → Prop) (I : Nat → σ → Prop) (hx : ∀ n s, I 0 s → W (n + 1) 0 s)
    (hs : ∀ n i s, I (i + 1) s → (∀ s', I i s' → W n i s') → W (n + 1) (i + 1) s) : ∀ (e : Nat) (s : σ), I e s → W (e + 1) e s := by
  intro e
  induction e with
  | zero => exact fun s h => hx 0 s h
  | succ e ih => exact fun s h => hs (e + 1) e s h (fun s' h' => ih s' h')
theorem lp1 {A1 : Type} (W : Nat → A1 → Prop) (I : A1 → Prop) (μ : A1 → Nat) (hs : ∀ (n : Nat) (a1 : A1), I a1 → (∀ (b1 : A1), I b1 → μ b1 < μ a1 → W n b1) → W (n + 1) a1) (a1 : A1) (h : I a1) : ∃ n, W n a1 :=
  loop_m (σ := A1) (fun n s => W n s) (fun s => I s) (fun s => μ s) (fun n s hI hk => hs n s hI (fun b1 h9 hm => hk b1 h9 hm)) a1 h
theorem lp2 {A1 A2 : Type} (W : Nat → A1 → A2 → Prop) (I : A1 → A2 → Prop) (μ : A1 → A2 → Nat) (hs : ∀ (n : Nat) (a1 : A1) (a2 : A2), I a1 a2 → (∀ (b1 : A1) (b2 : A2), I b1 b2 → μ b1 b2 < μ a1 a2 → W n b1 b2) → W (n + 1) a1 a2) (a1 : A1) (a2 : A2) (h : I a1 a2) : ∃ n, W n a1 a2 :=
  loop_m (σ := A1 × A2) (fun n s => W n s.1 s.2) (fun s => I s.1 s.2) (fun s => μ s.1 s.2) (fun n s hI hk => hs n s.1 s.2 hI (fun b1 b2 h9 hm => hk (b1, b2) h9 hm)) (a1, a2) h
theorem lp3 {A1 A2 A3 : Type} (W : Nat → A1 → A2 → A3 → Prop) (I : A1 → A2 → A3 → Prop) (μ : A1 → A2 → A3 → Nat) (hs : ∀ (n : Nat) (a1 : A1) (a2 : A2) (a3 : A3), I a1 a2 a3 → (∀ (b1 : A1) (b2 : A2) (b3 : A3), I b1 b2 b3 → μ b1 b2 b3 < μ a1 a2 a3 → W n b1 b2 b3) → W (n + 1) a1 a2 a3) (a1 : A1) (a2 : A2) (a3 : A3) (h : I a1 a2 a3) : ∃ n, W n a1 a2 a3 :=
  loop_m (σ := A1 × A2 × A3) (fun n s => W n s.1 s.2.1 s.2.2) (fun s => I s.1 s.2.1 s.2.2) (fun s => μ s.1 s.2.1 s.2.2) (fun n s hI hk => hs n s.1 s.2.1 s.2.2 hI (fun b1 b2 b3 h9 hm => hk (b1, b2, b3) h9 hm)) (a1, a2, a3) h
theorem lp4 {A1 A2 A3 A4 : Type} (W : Nat → A1 → A2 → A3 → A4 → Prop) (I : A1 → A2 → A3 → A4 → Prop) (μ : A1 → A2 → A3 → A4 → Nat) (hs : ∀ (n : Nat) (a1 : A1) (a2 : A2) (a3 : A3) (a4 : A4), I a1 a2 a3 a4 → (∀ (b1 : A1) (b2 : A2) (b3 : A3) (b4 : A4), I b1 b2 b3 b4 → μ b1 b2 b3 b4 < μ a1 a2 a3 a4 → W n b1 b2 b3 b4) → W (n + 1) a1 a2 a3 a4) (a1 : A1) (a2 : A2) (a3 : A3) (a4 : A4) (h : I a1 a2 a3 a4) : ∃ n, W n a1 a2 a3 a4 :=
  loop_m (σ := A1 × A2 × A3 × A4) (fun n s => W n s.1 s.2.1 s.2.2.1 s.2.2.2) (fun s => I s.1 s.2.1 s.2.2.1 s.2.2.2) (fun s => μ s.1 s.2.1 s.2.2.1 s.2.2.2) (fun n s hI hk => hs n s.1 s.2.1 s.2.2.1 s.2.2.2 hI (fun b1 b2 b3 b4 h9 hm => hk (b1, b2, b3, b4) h9 hm)) (a1, a2, a3, a4) h
theorem lp5 {A1 A2 A3 A4 A5 : Type} (W : Nat → A1 → A2 → A3 → A4 → A5 → Prop) (I : A1 → A2 → A3 → A4 → A5 → Prop) (μ : A1 → A2 → A3 → A4 → A5 → Nat) (hs : ∀ (n : Nat) (a1 : A1) (a2 : A2) (a3 : A3) (a4 : A4) (a5 : A5), I a1 a2 a3 a4 a5 → (∀ (b1 : A1) (b2 : A2) (b3 : A3) (b4 : A4) (b5 : A5), I b1 b2 b3 b4 b5 → μ b1 b2 b3 b4 b5 < μ a1 a2 a3 a4 a5 → W n b1 b2 b3 b4 b5) → W (n + 1) a1 a2 a3 a4 a5) (a1 : A1) (a2 : A2) (a3 : A3) (a4 : A4) (a5 : A5) (h : I a1 a2 a3 a4 a5) : ∃ n, W n a1 a2 a3 a4 a5 :=
  loop_m (σ := A1 × A2 × A3 × A4 × A5) (fun n s => W n s.1 s.2.1 s.2.2.1 s.2.2.2.1 s.2.2.2.2) (fun s => I s.1 s.2.1 s.2.2.1 s.2.2.2.1 s.2.2.2.2) (fun s => μ s.1 s.2.1 s.2.2.1 s.2.2.2.1 s.2.2.2.2) (fun n s hI hk => hs n s.1 s.2.1 s.2.2.1 s.2.2.2.1 s.2.2.2.2 hI (fun b1 b2 b3 b4 b5 h9 hm => hk (b1, b2, b3, b4, b5) h9 hm)) (a1, a2, a3, a4, a5) h
theorem lp6 {A1 A2 A3 A4 A5 A6 : Type} (W : Nat → A1 → A2 → A3 → A4 → A5 → A6 → Prop) (I : A1 → A2 → A3 → A4 → A5 → A6 → Prop) (μ : A1 → A2 → A3 → A4 → A5 → A6 → Nat) (hs : ∀ (n : Nat) (a1 : A1) (a2 : A2) (a3 : A3) (a4 : A4) (a5 : A5) (a6 : A6), I a1 a2 a3 a4 a5 a6 → (∀ (b1 : A1) (b2 : A2) (b3 : A3) (b4 : A4) (b5 : A5) (b6 : A6), I b1 b2 b3 b4 b5 b6 → μ b1 b2 b3 b4 b5 b6 < μ a1 a2 a3 a4 a5 a6 → W n b1 b2 b3 b4 b5 b6) → W (n + 1) a1 a2 a3 a4 a5 a6) (a1 : A1) (a2 : A2) (a3 : A3) (a4 : A4) (a5 : A5) (a6 : A6) (h : I a1 a2 a3 a4 a5 a6) : ∃ n, W n a1 a2 a3 a4 a5 a6 :=
  loop_m (σ := A1 × A2 × A3 × A4 × A5 × A6) (fun n s => W n s.1 s.2.1 s.2.2.1 s.2.2.2.1 s.2.2.2.2.1 s.2.2.2.2.2) (fun s => I s.1 s.2.1 s.2.2.1 s.2.2.2.1 s.2.2.2.2.1 s.2.2.2.2.2) (fun s => μ s.1 s.2.1 s.2.2.1 s.2.2.2.1 s.2.2.2.2.1 s.2.2.2.2.2) (fun n s hI hk => hs n s.1 s.2.1 s.2.2.1 s.2.2.2.1 s.2.2.2.2.1 s.2.2.2.2.2 hI (fun b1 b2 b3 b4 b5 b6 h9 hm => hk (b1, b2, b3, b4, b5, b6) h9 hm)) (a1, a2, a3, a4, a5, a6) h
theorem lp7 {A1 A2 A3 A4 A5 A6 A7 : Type} (W : Nat → A1 → A2 → A3 → A4 → A5 → A6 → A7 → Prop) (I : A1 → A2 → A3 → A4 → A5 → A6 → A7 → Prop) (μ : A1 → A2 → A3 → A4 → A5 → A6 → A7 → Nat) (hs : ∀ (n : Nat) (a1 : A1) (a2 : A2) (a3 : A3) (a4 : A4) (a5 : A5) (a6 : A6) (a7 : A7), I a1 a2 a3 a4 a5 a6 a7 → (∀ (b1 : A1) (b2 : A2) (b3 : A3) (b4 : A4) (b5 : A5) (b6 : A6) (b7 : A7), I b1 b2 b3 b4 b5 b6 b7 → μ b1 b2 b3 b4 b5 b6 b7 < μ a1 a2 a3 a4 a5 a6 a7 → W n b1 b2 b3 b4 b5 b6 b7) → W (n + 1) a1 a2 a3 a4 a5 a6 a7) (a1 : A1) (a2 : A2) (a3 : A3) (a4 : A4) (a5 : A5) (a6 : A6) (a7 : A7) (h : I a1 a2 a3 a4 a5 a6 a7) : ∃ n, W n a1 a2 a3 a4 a5 a6 a7 :=
  loop_m (σ := A1 × A2 × A3 × A4 × A5 × A6 × A7) (fun n s => W n s.1 s.2.1 s.2.2.1 s.2.2.2.1 s.2.2.2.2.1 s.2.2.2.2.2.1 s.2.2.2.2.2.2) (fun s => I s.1 s.2.1 s.2.2.1 s.2.2.2.1 s.2.2.2.2.1 s.2.2.2.2.2.1 s.2.2.2.2.2.2) (fun s => μ s.1 s.2.1 s.2.2.1 s.2.2.2.1 s.2.2.2.2.1 s.2.2.2.2.2.1 s.2.2.2.2.2.2) (fun n s hI hk => hs n s.1 s.2.1 s.2.2.1 s.2.2.2.1 s.2.2.2.2.1 s.2.2.2.2.2.1 s.2.2.2.2.2.2 hI (fun b1 b2 b3 b4 b5 b6 b7 h9 hm => hk (b1, b2, b3, b4, b5, b6, b7) h9 hm)) (a1, a2, a3, a4, a5, a6, a7) h
theorem lp8 {A1 A2 A3 A4 A5 A6 A7 A8 : Type} (W : Nat → A1 → A2 → A3 → A4 → A5 → A6 → A7 → A8 → Prop) (I : A1 → A2 → A3 → A4 → A5 → A6 → A7 → A8 → Prop) (μ : A1 → A2 → A3 → A4 → A5 → A6 → A7 → A8 → Nat) (hs : ∀ (n : Nat) (a1 : A1) (a2 : A2) (a3 : A3) (a4 : A4) (a5 : A5) (a6 : A6) (a7 : A7) (a8 : A8), I a1 a2 a3 a4 a5 a6 a7 a8 → (∀ (b1 : A1) (b2 : A2) (b3 : A3) (b4 : A4) (b5 : A5) (b6 : A6) (b7 : A7) (b8 : A8), I b1 b2 b3 b4 b5 b6 b7 b8 → μ b1 b2 b3 b4 b5 b6 b7 b8 < μ a1 a2 a3 a4 a5 a6 a7 a8 → W n b1 b2 b3 b4 b5 b6 b7 b8) → W (n + 1) a1 a2 a3 a4 a5 a6 a7 a8) (a1 : A1) (a2 : A2) (a3 : A3) (a4 : A4) (a5 : A5) (a6 : A6) (a7 : A7) (a8 : A8) (h : I a1 a2 a3 a4 a5 a6 a7 a8) : ∃ n, W n a1 a2 a3 a4 a5 a6 a7 a8 :=
  loop_m (σ := A1 × A2 × A3 × A4 × A5 × A6 × A7 × A8) (fun n s => W n s.1 s.2.1 s.2.2.1 s.2.2.2.1 s.2.2.2.2.1 s.2.2.2.2.2.1 s.2.2.2.2.2.2.1 s.2.2.2.2.2.2.2) (fun s => I s.1 s.2.1 s.2.2.1 s.2.2.2.1 s.2.2.2.2.1 s.2.2.2.2.2.1 s.2.2.2.2.2.2.1 s.2.2.2.2.2.2.2) (fun s => μ s.1 s.2.1 s.2.2.1 s.2.2.2.1 s.2.2.2.2.1 s.2.2.2.2.2.1 s.2.2.2.2.2.2.1 s.2.2.2.2.2.2.2) (fun n s hI hk => hs n s.1 s.2.1 s.2.2.1 s.2.2.2.1 s.2.2.2.2.1 s.2.2.2.2.2.1 s.2.2.2.2.2.2.1 s.2.2.2.2.2.2.2 hI (fun b1 b2 b3 b4 b5 b6 b7 b8 h9 hm => hk (b1, b2, b3, b4, b5, b6, b7, b8) h9 hm)) (a1, a2, a3, a4, a5, a6, a7, a8) h
theorem lp9 {A1 A2 A3 A4 A5 A6 A7 A8 A9 : Type} (W : Nat → A1 → A2 → A3 → A4 → A5 → A6 → A7 → A8 → A9 → Prop) (I : A1 → A2 → A3 → A4 → A5 → A6 → A7 → A8 → A9 → Prop) (μ : A1 → A2 → A3 → A4 → A5 → A6 → A7 → A8 → A9 → Nat) (hs : ∀ (n : Nat) (a1 : A1) (a2 : A2) (a3 : A3) (a4 : A4) (a5 : A5) (a6 : A6) (a7 : A7) (a8 : A8) (a9 : A9), I a1 a2 a3 a4 a5 a6 a7 a8 a9 → (∀ (b1 : A1) (b2 : A2) (b3 : A3) (b4 : A4) (b5 : A5) (b6 : A6) (b7 : A7) (b8 : A8) (b9 : A9), I b1 b2 b3 b4 b5 b6 b7 b8 b9 → μ b1 b2 b3 b4 b5 b6 b7 b8 b9 < μ a1 a2 a3 a4 a5 a6 a7 a8 a9 → W n b1 b2 b3 b4 b5 b6 b7 b8 b9) → W (n + 1) a1 a2 a3 a4 a5 a6 a7 a8 a9) (a1 : A1) (a2 : A2) (a3 : A3) (a4 : A4) (a5 : A5) (a6 : A6) (a7 : A7) (a8 : A8) (a9 : A9) (h : I a1 a2 a3 a4 a5 a6 a7 a8 a9) : ∃ n, W n a1 a2 a3 a4 a5 a6 a7 a8 a9 :=
  loop_m (σ := A1 × A2 × A3 × A4 × A5 × A6 × A7 × A8 × A9) (fun n s => W n s.1 s.2.1 s.2.2.1 s.2.2.2.1 s.2.2.2.2.1 s.2.2.2.2.2.1 s.2.2.2.2.2.2.1 s.2.2.2.2.2.2.2.1 s.2.2.2.2.2.2.2.2) (fun s => I s.1 s.2.1 s.2.2.1 s.2.2.2.1 s.2.2.2.2.1 s.2.2.2.2.2.1 s.2.2.2.2.2.2.1 s.2.2.2.2.2.2.2.1 s.2.2.2.2.2.2.2.2) (fun s => μ s.1 s.2.1 s.2.2.1 s.2.2.2.1 s.2.2.2.2.1 s.2.2.2.2.2.1 s.2.2.2.2.2.2.1 s.2.2.2.2.2.2.2.1 s.2.2.2.2.2.2.2.2) (fun n s hI hk => hs n s.1 s.2.1 s.2.2.1 s.2.2.2.1 s.2.2.2.2.1 s.2.2.2.2.2.1 s.2.2.2.2.2.2.1 s.2.2.2.2.2.2.2.1 s.2.2.2.2.2.2.2.2 hI (fun b1 b2 b3 b4 b5 b6 b7 b8 b9 h9 hm => hk (b1, b2, b3, b4, b5, b6, b7, b8, b9) h9 hm)) (a1, a2, a3, a4, a5, a6, a7, a8, a9) h
theorem lp10 {A1 A2 A3 A4 A5 A6 A7 A8 A9 A10 : Type} (W : Nat → A1 → A2 → A3 → A4 → A5 → A6 → A7 → A8 → A9 → A10 → Prop) (I : A1 → A2 → A3 → A4 → A5 → A6 → A7 → A8 → A9 → A10 → Prop) (μ : A1 → A2 → A3 → A4 → A5 → A6 → A7 → A8 → A9 → A10 → Nat) (hs : ∀ (n : Nat) (a1 : A1) (a2 : A2) (a3 : A3) (a4 : A4) (a5 : A5) (a6 : A6) (a7 : A7) (a8 : A8) (a9 : A9) (a10 : A10), I a1 a2 a3 a4 a5 a6 a7 a8 a9 a10 → (∀ (b1 : A1) (b2 : A2) (b3 : A3) (b4 : A4) (b5 : A5) (b6 : A6) (b7 : A7) (b8 : A8) (b9 : A9) (b10 : A10), I b1 b2 b3 b4 b5 b6 b7 b8 b9 b10 → μ b1 b2 b3 b4 b5 b6 b7 b8 b9 b10 < μ a1 a2 a3 a4 a5 a6 a7 a8 a9 a10 → W n b1 b2 b3 b4 b5 b6 b7 b8 b9 b10) → W (n + 1) a1 a2 a3 a4 a5 a6 a7 a8 a9 a10) (a1 : A1) (a2 : A2) (a3 : A3) (a4 : A4) (a5 : A5) (a6 : A6) (a7 : A7) (a8 : A8) (a9 : A9) (a10 : A10) (h : I a1 a2 a3 a4 a5 a6 a7 a8 a9 a10) : ∃ n, W n a1 a2 a3 a4 a5 a6 a7 a8 a9 a10 :=
  loop_m (σ := A1 × A2 × A3 × A4 × A5 × A6 × A7 × A8 × A9 × A10) (fun n s => W n s.1 s.2.1 s.2.2.1 s.2.2.2.1 s.2.2.2.2.1 s.2.2.2.2.2.1 s.2.2.2.2.2.2.1 s.2.2.2.2.2.2.2.1 s.2.2.2.2.2.2.2.2.1 s.2.2.2.2.2.2.2.2.2) (fun s => I s.1 s.2.1 s.2.2.1 s.2.2.2.1 s.2.2.2.2.1 s.2.2.2.2.2.1 s.2.2.2.2.2.2.1 s.2.2.2.2.2.2.2.1 s.2.2.2.2.2.2.2.2.1 s.2.2.2.2.2.2.2.2.2) (fun s => μ s.1 s.2.1 s.2.2.1 s.2.2.2.1 s.2.2.2.2.1 s.2.2.2.2.2.1 s.2.2.2.2.2.2.1 s.2.2.2.2.2.2.2.1 s.2.2.2.2.2.2.2.2.1 s.2.2.2.2.2.2.2.2.2) (fun n s hI hk => hs n s.1 s.2.1 s.2.2.1 s.2.2.2.1 s.2.2.2.2.1 s.2.2.2.2.2.1 s.2.2.2.2.2.2.1 s.2.2.2.2.2.2.2.1 s.2.2.2.2.2.2.2.2.1 s.2.2.2.2.2.2.2.2.2 hI (fun b1 b2 b3 b4 b5 b6 b7 b8 b9 b10 h9 hm => hk (b1, b2, b3, b4, b5, b6, b7, b8, b9, b10) h9 hm)) (a1, a2, a3, a4, a5, a6, a7, a8, a9, a10) h
theorem lp11 {A1 A2 A3 A4 A5 A6 A7 A8 A9 A10 A11 : Type} (W : Nat → A1 → A2 → A3 → A4 → A5 → A6 → A7 → A8 → A9 → A10 → A11 → Prop) (I : A1 → A2 → A3 → A4 → A5 → A6 → A7 → A8 → A9 → A10 → A11 → Prop) (μ : A1 → A2 → A3 → A4 → A5 → A6 → A7 → A8 → A9 → A10 → A11 → Nat) (hs : ∀ (n : Nat) (a1 : A1) (a2 : A2) (a3 : A3) (a4 : A4) (a5 : A5) (a6 : A6) (a7 : A7) (a8 : A8) (a9 : A9) (a10 : A10) (a11 : A11), I a1 a2 a3 a4 a5 a6 a7 a8 a9 a10 a11 → (∀ (b1 : A1) (b2 : A2) (b3 : A3) (b4 : A4) (b5 : A5) (b6 : A6) (b7 : A7) (b8 : A8) (b9 : A9) (b10 : A10) (b11 : A11), I b1 b2 b3 b4 b5 b6 b7 b8 b9 b10 b11 → μ b1 b2 b3 b4 b5 b6 b7 b8 b9 b10 b11 < μ a1 a2 a3 a4 a5 a6 a7 a8 a9 a10 a11 → W n b1 b2 b3 b4 b5 b6 b7 b8 b9 b10 b11) → W (n + 1) a1 a2 a3 a4 a5 a6 a7 a8 a9 a10 a11) (a1 : A1) (a2 : A2) (a3 : A3) (a4 : A4) (a5 : A5) (a6 : A6) (a7 : A7) (a8 : A8) (a9 : A9) (a10 : A10) (a11 : A11) (h : I a1 a2 a3 a4 a5 a6 a7 a8 a9 a10 a11) : ∃ n, W n a1 a2 a3 a4 a5 a6 a7 a8 a9 a10 a11 :=
  loop_m (σ := A1 × A2 × A3 × A4 × A5 × A6 × A7 × A8 × A9 × A10 × A11) (fun n s => W n s.1 s.2.1 s.2.2.1 s.2.2.2.1 s.2.2.2.2.1 s.2.2.2.2.2.1 s.2.2.2.2.2.2.1 s.2.2.2.2.2.2.2.1 s.2.2.2.2.2.2.2.2.1 s.2.2.2.2.2.2.2.2.2.1 s.2.2.2.2.2.2.2.2.2.2) (fun s => I s.1 s.2.1 s.2.2.1 s.2.2.2.1 s.2.2.2.2.1 s.2.2.2.2.2.1 s.2.2.2.2.2.2.1 s.2.2.2.2.2.2.2.1 s.2.2.2.2.2.2.2.2.1 s.2.2.2.2.2.2.2.2.2.1 s.2.2.2.2.2.2.2.2.2.2) (fun s => μ s.1 s.2.1 s.2.2.1 s.2.2.2.1 s.2.2.2.2.1 s.2.2.2.2.2.1 s.2.2.2.2.2.2.1 s.2.2.2.2.2.2.2.1 s.2.2.2.2.2.2.2.2.1 s.2.2.2.2.2.2.2.2.2.1 s.2.2.2.2.2.2.2.2.2.2) (fun n s hI hk => hs n s.1 s.2.1 s.2.2.1 s.2.2.2.1 s.2.2.2.2.1 s.2.2.2.2.2.1 s.2.2.2.2.2.2.1 s.2.2.2.2.2.2.2.1 s.2.2.2.2.2.2.2.2.1 s.2.2.2.2.2.2.2.2.2.1 s.2.2.2.2.2.2.2.2.2.2 hI (fun b1 b2 b3 b4 b5 b6 b7 b8 b9 b10 b11 h9 hm => hk (b1, b2, b3, b4, b5, b6, b7, b8, b9, b10, b11) h9 hm)) (a1, a2, a3, a4, a5, a6, a7, a8, a9, a10, a11) h
theorem lp12 {A1 A2 A3 A4 A5 A6 A7 A8 A9 A10 A11 A12 : Type} (W : Nat → A1 → A2 → A3 → A4 → A5 → A6 → A7 → A8 → A9 → A10 → A11 → A12 → Prop) (I : A1 → A2 → A3 → A4 → A5 → A6 → A7 → A8 → A9 → A10 → A11 → A12 → Prop) (μ : A1 → A2 → A3 → A4 → A5 → A6 → A7 → A8 → A9 → A10 → A11 → A12 → Nat) (hs : ∀ (n : Nat) (a1 : A1) (a2 : A2) (a3 : A3) (a4 : A4) (a5 : A5) (a6 : A6) (a7 : A7) (a8 : A8) (a9 : A9) (a10 : A10) (a11 : A11) (a12 : A12), I a1 a2 a3 a4 a5 a6 a7 a8 a9 a10 a11 a12 → (∀ (b1 : A1) (b2 : A2) (b3 : A3) (b4 : A4) (b5 : A5) (b6 : A6) (b7 : A7) (b8 : A8) (b9 : A9) (b10 : A10) (b11 : A11) (b12 : A12), I b1 b2 b3 b4 b5 b6 b7 b8 b9 b10 b11 b12 → μ b1 b2 b3 b4 b5 b6 b7 b8 b9 b10 b11 b12 < μ a1 a2 a3 a4 a5 a6 a7 a8 a9 a10 a11 a12 → W n b1 b2 b3 b4 b5 b6 b7 b8 b9 b10 b11 b12) → W (n + 1) a1 a2 a3 a4 a5 a6 a7 a8 a9 a10 a11 a12) (a1 : A1) (a2 : A2) (a3 : A3) (a4 : A4) (a5 : A5) (a6 : A6) (a7 : A7) (a8 : A8) (a9 : A9) (a10 : A10) (a11 : A11) (a12 : A12) (h : I a1 a2 a3 a4 a5 a6 a7 a8 a9 a10 a11 a12) : ∃ n, W n a1 a2 a3 a4 a5 a6 a7 a8 a9 a10 a11 a12 :=
  loop_m (σ := A1 × A2 × A3 × A4 × A5 × A6 × A7 × A8 × A9 × A10 × A11 × A12) (fun n s => W n s.1 s.2.1 s.2.2.1 s.2.2.2.1 s.2.2.2.2.1 s.2.2.2.2.2.1 s.2.2.2.2.2.2.1 s.2.2.2.2.2.2.2.1 s.2.2.2.2.2.2.2.2.1 s.2.2.2.2.2.2.2.2.2.1 s.2.2.2.2.2.2.2.2.2.2.1 s.2.2.2.2.2.2.2.2.2.2.2) (fun s => I s.1 s.2.1 s.2.2.1 s.2.2.2.1 s.2.2.2.2.1 s.2.2.2.2.2.1 s.2.2.2.2.2.2.1 s.2.2.2.2.2.2.2.1 s.2.2.2.2.2.2.2.2.1 s.2.2.2.2.2.2.2.2.2.1 s.2.2.2.2.2.2.2.2.2.2.1 s.2.2.2.2.2.2.2.2.2.2.2) (fun s => μ s.1 s.2.1 s.2.2.1 s.2.2.2.1 s.2.2.2.2.1 s.2.2.2.2.2.1 s.2.2.2.2.2.2.1 s.2.2.2.2.2.2.2.1 s.2.2.2.2.2.2.2.2.1 s.2.2.2.2.2.2.2.2.2.1 s.2.2.2.2.2.2.2.2.2.2.1 s.2.2.2.2.2.2.2.2.2.2.2) (fun n s hI hk => hs n s.1 s.2.1 s.2.2.1 s.2.2.2.1 s.2.2.2.2.1 s.2.2.2.2.2.1 s.2.2.2.2.2.2.1 s.2.2.2.2.2.2.2.1 s.2.2.2.2.2.2.2.2.1 s.2.2.2.2.2.2.2.2.2.1 s.2.2.2.2.2.2.2.2.2.2.1 s.2.2.2.2.2.2.2.2.2.2.2 hI (fun b1 b2 b3 b4 b5 b6 b7 b8 b9 b10 b11 b12 h9 hm => hk (b1, b2, b3, b4, b5, b6, b7, b8, b9, b10, b11, b12) h9 hm)) (a1, a2, a3, a4, a5, a6, a7, a8, a9, a10, a11, a12) h
theorem lp13 {A1 A2 A3 A4 A5 A6 A7 A8 A9 A10 A11 A12 A13 : Type} (W : Nat → A1 → A2 → A3 → A4 → A5 → A6 → A7 → A8 → A9 → A10 → A11 → A12 → A13 → Prop) (I : A1 → A2 → A3 → A4 → A5 → A6 → A7 → A8 → A9 → A10 → A11 → A12 → A13 → Prop) (μ : A1 → A2 → A3 → A4 → A5 → A6 → A7 → A8 → A9 → A10 → A11 → A12 → A13 → Nat) (hs : ∀ (n : Nat) (a1 : A1) (a2 : A2) (a3 : A3) (a4 : A4) (a5 : A5) (a6 : A6) (a7 : A7) (a8 : A8) (a9 : A9) (a10 : A10) (a11 : A11) (a12 : A12) (a13 : A13), I a1 a2 a3 a4 a5 a6 a7 a8 a9 a10 a11 a12 a13 → (∀ (b1 : A1) (b2 : A2) (b3 : A3) (b4 : A4) (b5 : A5) (b6 : A6) (b7 : A7) (b8 : A8) (b9 : A9) (b10 : A10) (b11 : A11) (b12 : A12) (b13 : A13), I b1 b2 b3 b4 b5 b6 b7 b8 b9 b10 b11 b12 b13 → μ b1 b2 b3 b4 b5 b6 b7 b8 b9 b10 b11 b12 b13 < μ a1 a2 a3 a4 a5 a6 a7 a8 a9 a10 a11 a12 a13 → W n b1 b2 b3 b4 b5 b6 b7 b8 b9 b10 b11 b12 b13) → W (n + 1) a1 a2 a3 a4 a5 a6 a7 a8 a9 a10 a11 a12 a13) (a1 : A1) (a2 : A2) (a3 : A3) (a4 : A4) (a5 : A5) (a6 : A6) (a7 : A7) (a8 : A8) (a9 : A9) (a10 : A10) (a11 : A11) (a12 : A12) (a13 : A13) (h : I a1 a2 a3 a4 a5 a6 a7 a8 a9 a10 a11 a12 a13) : ∃ n, W n a1 a2 a3 a4 a5 a6 a7 a8 a9 a10 a11 a12 a13 :=
  loop_m (σ := A1 × A2 × A3 × A4 × A5 × A6 × A7 × A8 × A9 × A10 × A11 × A12 × A13) (fun n s => W n s.1 s.2.1 s.2.2.1 s.2.2.2.1 s.2.2.2.2.1 s.2.2.2.2.2.1 s.2.2.2.2.2.2.1 s.2.2.2.2.2.2.2.1 s.2.2.2.2.2.2.2.2.1 s.2.2.2.2.2.2.2.2.2.1 s.2.2.2.2.2.2.2.2.2.2.1 s.2.2.2.2.2.2.2.2.2.2.2.1 s.2.2.2.2.2.2.2.2.2.2.2.2) (fun s => I s.1 s.2.1 s.2.2.1 s.2.2.2.1 s.2.2.2.2.1 s.2.2.2.2.2.1 s.2.2.2.2.2.2.1 s.2.2.2.2.2.2.2.1 s.2.2.2.2.2.2.2.2.1 s.2.2.2.2.2.2.2.2.2.1 s.2.2.2.2.2.2.2.2.2.2.1 s.2.2.2.2.2.2.2.2.2.2.2.1 s.2.2.2.2.2.2.2.2.2.2.2.2) (fun s => μ s.1 s.2.1 s.2.2.1 s.2.2.2.1 s.2.2.2.2.1 s.2.2.2.2.2.1 s.2.2.2.2.2.2.1 s.2.2.2.2.2.2.2.1 s.2.2.2.2.2.2.2.2.1 s.2.2.2.2.2.2.2.2.2.1 s.2.2.2.2.2.2.2.2.2.2.1 s.2.2.2.2.2.2.2.2.2.2.2.1 s.2.2.2.2.2.2.2.2.2.2.2.2) (fun n s hI hk => hs n s.1 s.2.1 s.2.2.1 s.2.2.2.1 s.2.2.2.2.1 s.2.2.2.2.2.1 s.2.2.2.2.2.2.1 s.2.2.2.2.2.2.2.1 s.2.2.2.2.2.2.2.2.1 s.2.2.2.2.2.2.2.2.2.1 s.2.2.2.2.2.2.2.2.2.2.1 s.2.2.2.2.2.2.2.2.2.2.2.1 s.2.2.2.2.2.2.2.2.2.2.2.2 hI (fun b1 b2 b3 b4 b5 b6 b7 b8 b9 b10 b11 b12 b13 h9 hm => hk (b1, b2, b3, b4, b5, b6, b7, b8, b9, b10, b11, b12, b13) h9 hm)) (a1, a2, a3, a4, a5, a6, a7, a8, a9, a10, a11, a12, a13) h
theorem lp14 {A1 A2 A3 A4 A5 A6 A7 A8 A9 A10 A11 A12 A13 A14 : Type} (W : Nat → A1 → A2 → A3 → A4 → A5 → A6 → A7 → A8 → A9 → A10 → A11 → A12 → A13 → A14 → Prop) (I : A1 → A2 → A3 → A4 → A5 → A6 → A7 → A8 → A9 → A10 → A11 → A12 → A13 → A14 → Prop) (μ : A1 → A2 → A3 → A4 → A5 → A6 → A7 → A8 → A9 → A10 → A11 → A12 → A13 → A14 → Nat) (hs : ∀ (n : Nat) (a1 : A1) (a2 : A2) (a3 : A3) (a4 : A4) (a5 : A5) (a6 : A6) (a7 : A7) (a8 : A8) (a9 : A9) (a10 : A10) (a11 : A11) (a12 : A12) (a13 : A13) (a14 : A14), I a1 a2 a3 a4 a5 a6 a7 a8 a9 a10 a11 a12 a13 a14 → (∀ (b1 : A1) (b2 : A2) (b3 : A3) (b4 : A4) (b5 : A5) (b6 : A6) (b7 : A7) (b8 : A8) (b9 : A9) (b10 : A10) (b11 : A11) (b12 : A12) (b13 : A13) (b14 : A14), I b1 b2 b3 b4 b5 b6 b7 b8 b9 b10 b11 b12 b13 b14 → μ b1 b2 b3 b4 b5 b6 b7 b8 b9 b10 b11 b12 b13 b14 < μ a1 a2 a3 a4 a5 a6 a7 a8 a9 a10 a11 a12 a13 a14 → W n b1 b2 b3 b4 b5 b6 b7 b8 b9 b10 b11 b12 b13 b14) → W (n + 1) a1 a2 a3 a4 a5 a6 a7 a8 a9 a10 a11 a12 a13 a14) (a1 : A1) (a2 : A2) (a3 : A3) (a4 : A4) (a5 : A5) (a6 : A6) (a7 : A7) (a8 : A8) (a9 : A9) (a10 : A10) (a11 : A11) (a12 : A12) (a13 : A13) (a14 : A14) (h : I a1 a2 a3 a4 a5 a6 a7 a8 a9 a10 a11 a12 a13 a14) : ∃ n, W n a1 a2 a3 a4 a5 a6 a7 a8 a9 a10 a11 a12 a13 a14 :=
  loop_m (σ := A1 × A2 × A3 × A4 × A5 × A6 × A7 × A8 × A9 × A10 × A11 × A12 × A13 × A14) (fun n s => W n s.1 s.2.1 s.2.2.1 s.2.2.2.1 s.2.2.2.2.1 s.2.2.2.2.2.1 s.2.2.2.2.2.2.1 s.2.2.2.2.2.2.2.1 s.2.2.2.2.2.2.2.2.1 s.2.2.2.2.2.2.2.2.2.1 s.2.2.2.2.2.2.2.2.2.2.1 s.2.2.2.2.2.2.2.2.2.2.2.1 s.2.2.2.2.2.2.2.2.2.2.2.2.1 s.2.2.2.2.2.2.2.2.2.2.2.2.2) (fun s => I s.1 s.2.1 s.2.2.1 s.2.2.2.1 s.2.2.2.2.1 s.2.2.2.2.2.1 s.2.2.2.2.2.2.1 s.2.2.2.2.2.2.2.1 s.2.2.2.2.2.2.2.2.1 s.2.2.2.2.2.2.2.2.2.1 s.2.2.2.2.2.2.2.2.2.2.1 s.2.2.2.2.2.2.2.2.2.2.2.1 s.2.2.2.2.2.2.2.2.2.2.2.2.1 s.2.2.2.2.2.2.2.2.2.2.2.2.2) (fun s => μ s.1 s.2.1 s.2.2.1 s.2.2.2.1 s.2.2.2.2.1 s.2.2.2.2.2.1 s.2.2.2.2.2.2.1 s.2.2.2.2.2.2.2.1 s.2.2.2.2.2.2.2.2.1 s.2.2.2.2.2.2.2.2.2.1 s.2.2.2.2.2.2.2.2.2.2.1 s.2.2.2.2.2.2.2.2.2.2.2.1 s.2.2.2.2.2.2.2.2.2.2.2.2.1 s.2.2.2.2.2.2.2.2.2.2.2.2.2) (fun n s hI hk => hs n s.1 s.2.1 s.2.2.1 s.2.2.2.1 s.2.2.2.2.1 s.2.2.2.2.2.1 s.2.2.2.2.2.2.1 s.2.2.2.2.2.2.2.1 s.2.2.2.2.2.2.2.2.1 s.2.2.2.2.2.2.2.2.2.1 s.2.2.2.2.2.2.2.2.2.2.1 s.2.2.2.2.2.2.2.2.2.2.2.1 s.2.2.2.2.2.2.2.2.2.2.2.2.1 s.2.2.2.2.2.2.2.2.2.2.2.2.2 hI (fun b1 b2 b3 b4 b5 b6 b7 b8 b9 b10 b11 b12 b13 b14 h9 hm => hk (b1, b2, b3, b4, b5, b6, b7, b8, b9, b10, b11, b12, b13, b14) h9 hm)) (a1, a2, a3, a4, a5, a6, a7, a8, a9, a10, a11, a12, a13, a14) h
theorem lp15 {A1 A2 A3 A4 A5 A6 A7 A8 A9 A10 A11 A12 A13 A14 A15 : Type} (W : Nat → A1 → A2 → A3 → A4 → A5 → A6 → A7 → A8 → A9 → A10 → A11 → A12 → A13 → A14 → A15 → Prop) (I : A1 → A2 → A3 → A4 → A5 → A6 → A7 → A8 → A9 → A10 → A11 → A12 → A13 → A14 → A15 → Prop) (μ : A1 → A2 → A3 → A4 → A5 → A6 → A7 → A8 → A9 → A10 → A11 → A12 → A13 → A14 → A15 → Nat) (hs : ∀ (n : Nat) (a1 : A1) (a2 : A2) (a3 : A3) (a4 : A4) (a5 : A5) (a6 : A6) (a7 : A7) (a8 : A8) (a9 : A9) (a10 : A10) (a11 : A11) (a12 : A12) (a13 : A13) (a14 : A14) (a15 : A15), I a1 a2 a3 a4 a5 a6 a7 a8 a9 a10 a11 a12 a13 a14 a15 → (∀ (b1 : A1) (b2 : A2) (b3 : A3) (b4 : A4) (b5 : A5) (b6 : A6) (b7 : A7) (b8 : A8) (b9 : A9) (b10 : A10) (b11 : A11) (b12 : A12) (b13 : A13) (b14 : A14) (b15 : A15), I b1 b2 b3 b4 b5 b6 b7 b8 b9 b10 b11 b12 b13 b14 b15 → μ b1 b2 b3 b4 b5 b6 b7 b8 b9 b10 b11 b12 b13 b14 b15 < μ a1 a2 a3 a4 a5 a6 a7 a8 a9 a10 a11 a12 a13 a14 a15 → W n b1 b2 b3 b4 b5 b6 b7 b8 b9 b10 b11 b12 b13 b14 b15) → W (n + 1) a1 a2 a3 a4 a5 a6 a7 a8 a9 a10 a11 a12 a13 a14 a15) (a1 : A1) (a2 : A2) (a3 : A3) (a4 : A4) (a5 : A5) (a6 : A6) (a7 : A7) (a8 : A8) (a9 : A9) (a10 : A10) (a11 : A11) (a12 : A12) (a13 : A13) (a14 : A14) (a15 : A15) (h : I a1 a2 a3 a4 a5 a6 a7 a8 a9 a10 a11 a12 a13 a14 a15) : ∃ n, W n a1 a2 a3 a4 a5 a6 a7 a8 a9 a10 a11 a12 a13 a14 a15 :=
  loop_m (σ := A1 × A2 × A3 × A4 × A5 × A6 × A7 × A8 × A9 × A10 × A11 × A12 × A13 × A14 × A15) (fun n s => W n s.1 s.2.1 s.2.2.1 s.2.2.2.1 s.2.2.2.2.1 s.2.2.2.2.2.1 s.2.2.2.2.2.2.1 s.2.2.2.2.2.2.2.1 s.2.2.2.2.2.2.2.2.1 s.2.2.2.2.2.2.2.2.2.1 s.2.2.2.2.2.2.2.2.2.2.1 s.2.2.2.2.2.2.2.2.2.2.2.1 s.2.2.2.2.2.2.2.2.2.2.2.2.1 s.2.2.2.2.2.2.2.2.2.2.2.2.2.1 s.2.2.2.2.2.2.2.2.2.2.2.2.2.2) (fun s => I s.1 s.2.1 s.2.2.1 s.2.2.2.1 s.2.2.2.2.1 s.2.2.2.2.2.1 s.2.2.2.2.2.2.1 s.2.2.2.2.2.2.2.1 s.2.2.2.2.2.2.2.2.1 s.2.2.2.2.2.2.2.2.2.1 s.2.2.2.2.2.2.2.2.2.2.1 s.2.2.2.2.2.2.2.2.2.2.2.1 s.2.2.2.2.2.2.2.2.2.2.2.2.1 s.2.2.2.2.2.2.2.2.2.2.2.2.2.1 s.2.2.2.2.2.2.2.2.2.2.2.2.2.2) (fun s => μ s.1 s.2.1 s.2.2.1 s.2.2.2.1 s.2.2.2.2.1 s.2.2.2.2.2.1 s.2.2.2.2.2.2.1 s.2.2.2.2.2.2.2.1 s.2.2.2.2.2.2.2.2.1 s.2.2.2.2.2.2.2.2.2.1 s.2.2.2.2.2.2.2.2.2.2.1 s.2.2.2.2.2.2.2.2.2.2.2.1 s.2.2.2.2.2.2.2.2.2.2.2.2.1 s.2.2.2.2.2.2.2.2.2.2.2.2.2.1 s.2.2.2.2.2.2.2.2.2.2.2.2.2.2) (fun n s hI hk => hs n s.1 s.2.1 s.2.2.1 s.2.2.2.1 s.2.2.2.2.1 s.2.2.2.2.2.1 s.2.2.2.2.2.2.1 s.2.2.2.2.2.2.2.1 s.2.2.2.2.2.2.2.2.1 s.2.2.2.2.2.2.2.2.2.1 s.2.2.2.2.2.2.2.2.2.2.1 s.2.2.2.2.2.2.2.2.2.2.2.1 s.2.2.2.2.2.2.2.2.2.2.2.2.1 s.2.2.2.2.2.2.2.2.2.2.2.2.2.1 s.2.2.2.2.2.2.2.2.2.2.2.2.2.2 hI (fun b1 b2 b3 b4 b5 b6 b7 b8 b9 b10 b11 b12 b13 b14 b15 h9 hm => hk (b1, b2, b3, b4, b5, b6, b7, b8, b9, b10, b11, b12, b13, b14, b15) h9 hm)) (a1, a2, a3, a4, a5, a6, a7, a8, a9, a10, a11, a12, a13, a14, a15) h
theorem lp16 {A1 A2 A3 A4 A5 A6 A7 A8 A9 A10 A11 A12 A13 A14 A15 A16 : Type} (W : Nat → A1 → A2 → A3 → A4 → A5 → A6 → A7 → A8 → A9 → A10 → A11 → A12 → A13 → A14 → A15 → A16 → Prop) (I : A1 → A2 → A3 → A4 → A5 → A6 → A7 → A8 → A9 → A10 → A11 → A12 → A13 → A14 → A15 → A16 → Prop) (μ : A1 → A2 → A3 → A4 → A5 → A6 → A7 → A8 → A9 → A10 → A11 → A12 → A13 → A14 → A15 → A16 → Nat) (hs : ∀ (n : Nat) (a1 : A1) (a2 : A2) (a3 : A3) (a4 : A4) (a5 : A5) (a6 : A6) (a7 : A7) (a8 : A8) (a9 : A9) (a10 : A10) (a11 : A11) (a12 : A12) (a13 : A13) (a14 : A14) (a15 : A15) (a16 : A16), I a1 a2 a3 a4 a5 a6 a7 a8 a9 a10 a11 a12 a13 a14 a15 a16 → (∀ (b1 : A1) (b2 : A2) (b3 : A3) (b4 : A4) (b5 : A5) (b6 : A6) (b7 : A7) (b8 : A8) (b9 : A9) (b10 : A10) (b11 : A11) (b12 : A12) (b13 : A13) (b14 : A14) (b15 : A15) (b16 : A16), I b1 b2 b3 b4 b5 b6 b7 b8 b9 b10 b11 b12 b13 b14 b15 b16 → μ b1 b2 b3 b4 b5 b6 b7 b8 b9 b10 b11 b12 b13 b14 b15 b16 < μ a1 a2 a3 a4 a5 a6 a7 a8 a9 a10 a11 a12 a13 a14 a15 a16 → W n b1 b2 b3 b4 b5 b6 b7 b8 b9 b10 b11 b12 b13 b14 b15 b16) → W (n + 1) a1 a2 a3 a4 a5 a6 a7 a8 a9 a10 a11 a12 a13 a14 a15 a16) (a1 : A1) (a2 : A2) (a3 : A3) (a4 : A4) (a5 : A5) (a6 : A6) (a7 : A7) (a8 : A8) (a9 : A9) (a10 : A10) (a11 : A11) (a12 : A12) (a13 : A13) (a14 : A14) (a15 : A15) (a16 : A16) (h : I a1 a2 a3 a4 a5 a6 a7 a8 a9 a10 a11 a12 a13 a14 a15 a16) : ∃ n, W n a1 a2 a3 a4 a5 a6 a7 a8 a9 a10 a11 a12 a13 a14 a15 a16 :=
  loop_m (σ := A1 × A2 × A3 × A4 × A5 × A6 × A7 × A8 × A9 × A10 × A11 × A12 × A13 × A14 × A15 × A16) (fun n s => W n s.1 s.2.1 s.2.2.1 s.2.2.2.1 s.2.2.2.2.1 s.2.2.2.2.2.1 s.2.2.2.2.2.2.1 s.2.2.2.2.2.2.2.1 s.2.2.2.2.2.2.2.2.1 s.2.2.2.2.2.2.2.2.2.1 s.2.2.2.2.2.2.2.2.2.2.1 s.2.2.2.2.2.2.2.2.2.2.2.1 s.2.2.2.2.2.2.2.2.2.2.2.2.1 s.2.2.2.2.2.2.2.2.2.2.2.2.2.1 s.2.2.2.2.2.2.2.2.2.2.2.2.2.2.1 s.2.2.2.2.2.2.2.2.2.2.2.2.2.2.2) (fun s => I s.1 s.2.1 s.2.2.1 s.2.2.2.1 s.2.2.2.2.1 s.2.2.2.2.2.1 s.2.2.2.2.2.2.1 s.2.2.2.2.2.2.2.1 s.2.2.2.2.2.2.2.2.1 s.2.2.2.2.2.2.2.2.2.1 s.2.2.2.2.2.2.2.2.2.2.1 s.2.2.2.2.2.2.2.2.2.2.2.1 s.2.2.2.2.2.2.2.2.2.2.2.2.1 s.2.2.2.2.2.2.2.2.2.2.2.2.2.1 s.2.2.2.2.2.2.2.2.2.2.2.2.2.2.1 s.2.2.2.2.2.2.2.2.2.2.2.2.2.2.2) (fun s => μ s.1 s.2.1 s.2.2.1 s.2.2.2.1 s.2.2.2.2.1 s.2.2.2.2.2.1 s.2.2.2.2.2.2.1 s.2.2.2.2.2.2.2.1 s.2.2.2.2.2.2.2.2.1 s.2.2.2.2.2.2.2.2.2.1 s.2.2.2.2.2.2.2.2.2.2.1 s.2.2.2.2.2.2.2.2.2.2.2.1 s.2.2.2.2.2.2.2.2.2.2.2.2.1 s.2.2.2.2.2.2.2.2.2.2.2.2.2.1 s.2.2.2.2.2.2.2.2.2.2.2.2.2.2.1 s.2.2.2.2.2.2.2.2.2.2.2.2.2.2.2) (fun n s hI hk => hs n s.1 s.2.1 s.2.2.1 s.2.2.2.1 s.2.2.2.2.1 s.2.2.2.2.2.1 s.2.2.2.2.2.2.1 s.2.2.2.2.2.2.2.1 s.2.2.2.2.2.2.2.2.1 s.2.2.2.2.2.2.2.2.2.1 s.2.2.2.2.2.2.2.2.2.2.1 s.2.2.2.2.2.2.2.2.2.2.2.1 s.2.2.2.2.2.2.2.2.2.2.2.2.1 s.2.2.2.2.2.2.2.2.2.2.2.2.2.1 s.2.2.2.2.2.2.2.2.2.2.2.2.2.2.1 s.2.2.2.2.2.2.2.2.2.2.2.2.2.2.2 hI (fun b1 b2 b3 b4 b5 b6 b7 b8 b9 b10 b11 b12 b13 b14 b15 b16 h9 hm => hk (b1, b2, b3, b4, b5, b6, b7, b8, b9, b10, b11, b12, b13, b14, b15, b16) h9 hm)) (a1, a2, a3, a4, a5, a6, a7, a8, a9, a10, a11, a12, a13, a14, a15, a16) h
theorem pk_least (P : Nat → Prop) (h : ∃ k, P k) : ∃ k, P k ∧ ∀ j, j < k → ¬ P j := by
  obtain ⟨k, hk⟩ := h
  induction k using Nat.strongRecOn with
  | ind k ih =>
    by_cases e : ∃ j, j < k ∧ P j
    · obtain ⟨j, hj, pj⟩ := e
      exact ih j hj pj
    · exact ⟨k, hk, fun j hj pj => e ⟨j, hj, pj⟩⟩
theorem rp1 {ρ A1 : Type} (W : Nat → (ρ → Prop) → A1 → Prop) (ok : A1 → Prop) (μ : A1 → Nat) (val : A1 → ρ)
    (hs : ∀ (d : Nat) (post : ρ → Prop) (a1 : A1), ok a1 → post (val a1) → (∀ (post' : ρ → Prop) (b1 : A1), ok b1 → μ b1 < μ a1 → post' (val b1) → W d post' b1) → W (d + 1) post a1) :
    ∀ (d : Nat) (post : ρ → Prop) (a1 : A1), ok a1 → μ a1 < d → post (val a1) → W d post a1 := by
  intro d
  induction d with
  | zero => intro post a1 _ h; omega
  | succ d ih =>
    intro post a1 ho hm hp
    exact hs d post a1 ho hp (fun post' b1 ho' hm' hp' => ih post' b1 ho' (by omega) hp')
theorem rp2 {ρ A1 A2 : Type} (W : Nat → (ρ → Prop) → A1 → A2 → Prop) (ok : A1 → A2 → Prop) (μ : A1 → A2 → Nat) (val : A1 → A2 → ρ)
    (hs : ∀ (d : Nat) (post : ρ → Prop) (a1 : A1) (a2 : A2), ok a1 a2 → post (val a1 a2) → (∀ (post' : ρ → Prop) (b1 : A1) (b2 : A2), ok b1 b2 → μ b1 b2 < μ a1 a2 → post' (val b1 b2) → W d post' b1 b2) → W (d + 1) post a1 a2) :
    ∀ (d : Nat) (post : ρ → Prop) (a1 : A1) (a2 : A2), ok a1 a2 → μ a1 a2 < d → post (val a1 a2) → W d post a1 a2 := by
  intro d
  induction d with
  | zero => intro post a1 a2 _ h; omega
  | succ d ih =>
    intro post a1 a2 ho hm hp
    exact hs d post a1 a2 ho hp (fun post' b1 b2 ho' hm' hp' => ih post' b1 b2 ho' (by omega) hp')
theorem rp3 {ρ A1 A2 A3 : Type} (W : Nat → (ρ → Prop) → A1 → A2 → A3 → Prop) (ok : A1 → A2 → A3 → Prop) (μ : A1 → A2 → A3 → Nat) (val : A1 → A2 → A3 → ρ)
    (hs : ∀ (d : Nat) (post : ρ → Prop) (a1 : A1) (a2 : A2) (a3 : A3), ok a1 a2 a3 → post (val a1 a2 a3) → (∀ (post' : ρ → Prop) (b1 : A1) (b2 : A2) (b3 : A3), ok b1 b2 b3 → μ b1 b2 b3 < μ a1 a2 a3 → post' (val b1 b2 b3) → W d post' b1 b2 b3) → W (d + 1) post a1 a2 a3) :
    ∀ (d : Nat) (post : ρ → Prop) (a1 : A1) (a2 : A2) (a3 : A3), ok a1 a2 a3 → μ a1 a2 a3 < d → post (val a1 a2 a3) → W d post a1 a2 a3 := by
  intro d
  induction d with
  | zero => intro post a1 a2 a3 _ h; omega
  | succ d ih =>
    intro post a1 a2 a3 ho hm hp
    exact hs d post a1 a2 a3 ho hp (fun post' b1 b2 b3 ho' hm' hp' => ih post' b1 b2 b3 ho' (by omega) hp')
theorem rp4 {ρ A1 A2 A3 A4 : Type} (W : Nat → (ρ → Prop) → A1 → A2 → A3 → A4 → Prop) (ok : A1 → A2 → A3 → A4 → Prop) (μ : A1 → A2 → A3 → A4 → Nat) (val : A1 → A2 → A3 → A4 → ρ)
    (hs : ∀ (d : Nat) (post : ρ → Prop) (a1 : A1) (a2 : A2) (a3 : A3) (a4 : A4), ok a1 a2 a3 a4 → post (val a1 a2 a3 a4) → (∀ (post' : ρ → Prop) (b1 : A1) (b2 : A2) (b3 : A3) (b4 : A4), ok b1 b2 b3 b4 → μ b1 b2 b3 b4 < μ a1 a2 a3 a4 → post' (val b1 b2 b3 b4) → W d post' b1 b2 b3 b4) → W (d + 1) post a1 a2 a3 a4) :
    ∀ (d : Nat) (post : ρ → Prop) (a1 : A1) (a2 : A2) (a3 : A3) (a4 : A4), ok a1 a2 a3 a4 → μ a1 a2 a3 a4 < d → post (val a1 a2 a3 a4) → W d post a1 a2 a3 a4 := by
  intro d
  induction d with
  | zero => intro post a1 a2 a3 a4 _ h; omega
  | succ d ih =>
    intro post a1 a2 a3 a4 ho hm hp
    exact hs d post a1 a2 a3 a4 ho hp (fun post' b1 b2 b3 b4 ho' hm' hp' => ih post' b1 b2 b3 b4 ho' (by omega) hp')
theorem rp5 {ρ A1 A2 A3 A4 A5 : Type} (W : Nat → (ρ → Prop) → A1 → A2 → A3 → A4 → A5 → Prop) (ok : A1 → A2 → A3 → A4 → A5 → Prop) (μ : A1 → A2 → A3 → A4 → A5 → Nat) (val : A1 → A2 → A3 → A4 → A5 → ρ)
    (hs : ∀ (d : Nat) (post : ρ → Prop) (a1 : A1) (a2 : A2) (a3 : A3) (a4 : A4) (a5 : A5), ok a1 a2 a3 a4 a5 → post (val a1 a2 a3 a4 a5) → (∀ (post' : ρ → Prop) (b1 : A1) (b2 : A2) (b3 : A3) (b4 : A4) (b5 : A5), ok b1 b2 b3 b4 b5 → μ b1 b2 b3 b4 b5 < μ a1 a2 a3 a4 a5 → post' (val b1 b2 b3 b4 b5) → W d post' b1 b2 b3 b4 b5) → W (d + 1) post a1 a2 a3 a4 a5) :
    ∀ (d : Nat) (post : ρ → Prop) (a1 : A1) (a2 : A2) (a3 : A3) (a4 : A4) (a5 : A5), ok a1 a2 a3 a4 a5 → μ a1 a2 a3 a4 a5 < d → post (val a1 a2 a3 a4 a5) → W d post a1 a2 a3 a4 a5 := by
  intro d
  induction d with
  | zero => intro post a1 a2 a3 a4 a5 _ h; omega
  | succ d ih =>
    intro post a1 a2 a3 a4 a5 ho hm hp
    exact hs d post a1 a2 a3 a4 a5 ho hp (fun post' b1 b2 b3 b4 b5 ho' hm' hp' => ih post' b1 b2 b3 b4 b5 ho' (by omega) hp')
theorem rp6 {ρ A1 A2 A3 A4 A5 A6 : Type} (W : Nat → (ρ → Prop) → A1 → A2 → A3 → A4 → A5 → A6 → Prop) (ok : A1 → A2 → A3 → A4 → A5 → A6 → Prop) (μ : A1 → A2 → A3 → A4 → A5 → A6 → Nat) (val : A1 → A2 → A3 → A4 → A5 → A6 → ρ)
    (hs : ∀ (d : Nat) (post : ρ → Prop) (a1 : A1) (a2 : A2) (a3 : A3) (a4 : A4) (a5 : A5) (a6 : A6), ok a1 a2 a3 a4 a5 a6 → post (val a1 a2 a3 a4 a5 a6) → (∀ (post' : ρ → Prop) (b1 : A1) (b2 : A2) (b3 : A3) (b4 : A4) (b5 : A5) (b6 : A6), ok b1 b2 b3 b4 b5 b6 → μ b1 b2 b3 b4 b5 b6 < μ a1 a2 a3 a4 a5 a6 → post' (val b1 b2 b3 b4 b5 b6) → W d post' b1 b2 b3 b4 b5 b6) → W (d + 1) post a1 a2 a3 a4 a5 a6) :
    ∀ (d : Nat) (post : ρ → Prop) (a1 : A1) (a2 : A2) (a3 : A3) (a4 : A4) (a5 : A5) (a6 : A6), ok a1 a2 a3 a4 a5 a6 → μ a1 a2 a3 a4 a5 a6 < d → post (val a1 a2 a3 a4 a5 a6) → W d post a1 a2 a3 a4 a5 a6 := by
  intro d
  induction d with
  | zero => intro post a1 a2 a3 a4 a5 a6 _ h; omega
  | succ d ih =>
    intro post a1 a2 a3 a4 a5 a6 ho hm hp
    exact hs d post a1 a2 a3 a4 a5 a6 ho hp (fun post' b1 b2 b3 b4 b5 b6 ho' hm' hp' => ih post' b1 b2 b3 b4 b5 b6 ho' (by omega) hp')
theorem rec_p {σ ρ : Type} (W : Nat → (ρ → Prop) → σ → Prop) (ok : σ → Prop) (μ : σ → Nat) (val : σ → ρ)
    (hs : ∀ d s post, ok s → post (val s) → (∀ s' post', ok s' → μ s' < μ s → post' (val s') → W d post' s') → W (d + 1) post s) :
    ∀ d s post, ok s → μ s < d → post (val s) → W d post s := by
  intro d
  induction d with
  | zero => intro s post _ h; omega
  | succ d ih =>
    intro s post ho hm hp
    exact hs d s post ho hp (fun s' post' ho' hm' hp' => ih s' post' ho' (by omega) hp')
theorem rec_q {σ ρ : Type} (W : Nat → (ρ → Prop) → σ → Prop) (ok : σ → Prop) (μ : σ → Nat) (Q : σ → ρ → Prop)
    (hs : ∀ d s post, ok s → (∀ r, Q s r → post r) → (∀ s' post', ok s' → μ s' < μ s → (∀ r, Q s' r → post' r) → W d post' s') → W (d + 1) post s) :
    ∀ d s post, ok s → μ s < d → (∀ r, Q s r → post r) → W d post s := by
  intro d
  induction d with
  | zero => intro s post _ h; omega
  | succ d ih =>
    intro s post ho hm hp
    exact hs d s post ho hp (fun s' post' ho' hm' hp' => ih s' post' ho' (by omega) hp')
def bx_sum (f : Nat → Int32) : Nat → Int32
  | 0 => 0
  | n + 1 => bx_sum f n + f n
theorem ek_u {A : Prop} {B : Nat → Prop} {k N : Nat} (hk : k < N) (h : B k) : (some k = none → A) ∧ (∀ y : Nat, some k = some y → (y < N ∧ B y)) :=
  ⟨fun z => absurd z (Option.some_ne_none k), fun _ e => (by cases e; exact ⟨hk, h⟩)⟩
theorem ek_nu {A : Prop} {B : Nat → Prop} (h : A) : ((none : Option Nat) = none → A) ∧ (∀ y : Nat, (none : Option Nat) = some y → B y) :=
  ⟨fun _ => h, fun _ e => (by cases e)⟩
theorem ek_if {c d A B : Prop} (e : c ↔ d) (f : d → A) (g : ¬ d → B) : (c → A) ∧ (¬ c → B) :=
  ⟨fun z => f (e.mp z), fun z => g (fun y => z (e.mpr y))⟩
theorem ek_v {α : Sort _} {P : α → Prop} {a b : α} (e : a = b) (h : P b) : P a := e ▸ h
theorem co_some {x : Option Nat} {A : Prop} {B : Nat → Prop} (i : Nat) (h : B i) (hx : x = some i := by rfl) : (x = none → A) ∧ (∀ y : Nat, x = some y → B y) := by
  subst hx
  exact ⟨fun e => (nomatch e), fun y e => Option.some.inj e ▸ h⟩
theorem co_none {x : Option Nat} {A : Prop} {B : Nat → Prop} (h : A) (hx : x = none := by rfl) : (x = none → A) ∧ (∀ y : Nat, x = some y → B y) := by
  subst hx
  exact ⟨fun _ => h, fun y e => (nomatch e)⟩
theorem co_any {x : Option Nat} {A : Prop} {B : Nat → Prop} (hn : x = none → A) (hs : ∀ i : Nat, x = some i → B i) : (x = none → A) ∧ (∀ y : Nat, x = some y → B y) := ⟨hn, hs⟩
theorem co_2 {P : Nat → Prop} (h0 : P 0) (h1 : P 1) {i : Nat} (hi : i < 2) : P i :=
  match i, hi with
  | 0, _ => h0
  | 1, _ => h1
theorem co_3 {P : Nat → Prop} (h0 : P 0) (h1 : P 1) (h2 : P 2) {i : Nat} (hi : i < 3) : P i :=
  match i, hi with
  | 0, _ => h0
  | 1, _ => h1
  | 2, _ => h2
theorem co_4 {P : Nat → Prop} (h0 : P 0) (h1 : P 1) (h2 : P 2) (h3 : P 3) {i : Nat} (hi : i < 4) : P i :=
  match i, hi with
  | 0, _ => h0
  | 1, _ => h1
  | 2, _ => h2
  | 3, _ => h3
theorem co_dec {N : Nat} {P : Nat → Prop} [DecidablePred P] (h : (List.range N).all (fun i => decide (P i)) = true) {i : Nat} (hi : i < N) : P i := by
  have := List.all_eq_true.mp h i (List.mem_range.mpr hi)
  exact of_decide_eq_true this
theorem co_tab {α : Type} {l : List α} {d : α} {P : α → Prop} (h : ∀ a, a ∈ l → P a) {i : Nat} (hi : i < l.length) : P (l.getD i d) := by
  rw [List.getD_eq_getElem?_getD, List.getElem?_eq_getElem hi]
  exact h _ (List.getElem_mem hi)
theorem pk_mu {x : Int32} {L : Nat} (h0 : ¬ x < 0) (h : ¬ nI L ≤ x) (hL : L < 2 ^ 31) : ∃ j : Nat, j < L ∧ x = nI j ∧ x + 1 = nI (j + 1) ∧ x.toNatClampNeg = j ∧ L - (x + 1).toNatClampNeg < L - x.toNatClampNeg := by
  obtain ⟨j, hj, rfl⟩ := nI_of h0
  have hl : j < L := Nat.not_le.mp fun q => h (nI_le q hj)
  refine ⟨j, hl, rfl, nI_1 j, nI_clamp hj, ?_⟩
  rw [nI_1, nI_clamp (by omega), nI_clamp hj]
  omega
theorem op_s {α : Type} {r : Option α} {A : Prop} {B : α → Prop} {y : α} (h : r = some y) (b : B y) : (r = none → A) ∧ ∀ z, r = some z → B z :=
  ⟨fun e => (by rw [h] at e; cases e), fun z e => (by rw [h] at e; cases e; exact b)⟩
def l_holds {α : Type} (a : Nat → Option Nat) (LP : List Nat) (p : Nat → α) (c : Nat) (b : Nat → α) : Prop :=
  ∀ j, j < c → ∃ y, a j = some y ∧ y ∈ LP ∧ p y = b j
theorem l_holds_0 {α : Type} {a : Nat → Option Nat} {LP : List Nat} {p b : Nat → α} : l_holds a LP p 0 b := fun j h => absurd h (Nat.not_lt_zero j)
theorem l_in_new (LP : List Nat) (q : Nat) : q ∈ LP ++ [q] := List.mem_append.mpr (Or.inr (List.mem_singleton.mpr rfl))
def l_sum (b : Nat → Int32) : Nat → Int32
  | 0 => 0
  | k + 1 => l_sum b k + b k
theorem sb_shr0 (x : Int32) : x >>> ((0 : Int32) &&& 31) = x := by
  rw [show ((0 : Int32) &&& 31) = 0 by decide]
  simp
theorem sb_shl0 (x : Int32) : x <<< ((0 : Int32) &&& 31) = x := by
  rw [show ((0 : Int32) &&& 31) = 0 by decide]
  simp
theorem sb_cl0 : (0 : Int32).toNatClampNeg = 0 := by decide
theorem sb_m1 {p : Nat} (h : 0 < p) : nI p + (-1) = nI (p - 1) := by
  obtain ⟨q, rfl⟩ : ∃ q, p = q + 1 := ⟨p - 1, by omega⟩
  exact pk_m1 q
def sb_b (c : Nat) : Int32 := (nI c).toInt8.toInt32
theorem sb_byte : ∀ c, c < 256 → sb_b c &&& 255 = nI c ∧ ((nI c).toUInt32 % 65536).toInt32 = nI c ∧ nI c ≤ 255 := by decide +kernel
def sb_Fit (a : Nat → Int32) : Prop := ∀ j, fits .byte (.int (a j)) = true
def sb_Lat (t : Nat → Nat) (n : Nat) (a : Nat → Int32) : Prop := ∀ j, j < n → t j < 256 ∧ a j = sb_b (t j)
theorem sb_fitB (c : Nat) : fits .byte (.int (sb_b c)) = true := pk_fb _
theorem sb_fit0 : sb_Fit (fun _ => 0) := fun _ => by
  show fits .byte (.int 0) = true
  decide
theorem sb_fitU {a : Nat → Int32} {k : Nat} {x : Int32} (h : sb_Fit a) (hx : fits .byte (.int x) = true) : sb_Fit (upd a k x) := by
  intro j
  by_cases e : j = k
  · subst e
    rw [pk_us]
    exact hx
  · rw [pk_un e]
    exact h j
def sb_cat (t : Nat → Nat) (n : Nat) (s : Nat → Nat) : Nat → Nat := fun j => if j < n then t j else s (j - n)
theorem sb_cat_lo {t s : Nat → Nat} {n j : Nat} (h : j < n) : sb_cat t n s j = t j := if_pos h
theorem sb_cat_hi {t s : Nat → Nat} {n j : Nat} : sb_cat t n s (n + j) = s j := by
  show (if n + j < n then t (n + j) else s (n + j - n)) = s j
  rw [if_neg (by omega), Nat.add_sub_cancel_left]
theorem sb_latPut {t s : Nat → Nat} {n w : Nat} {a a' : Nat → Int32} (h : sb_Lat t n a) (hk : ∀ j, j < n → a' j = a j) (hs : ∀ i, i < w → s i < 256 ∧ a' (n + i) = sb_b (s i)) : sb_Lat (sb_cat t n s) (n + w) a' := by
  intro j hj
  by_cases e : j < n
  · rw [sb_cat_lo e, hk j e]
    exact h j e
  · obtain ⟨i, rfl⟩ : ∃ i, j = n + i := ⟨j - n, by omega⟩
    rw [sb_cat_hi]
    exact hs i (by omega)
theorem sb_latKeep {t : Nat → Nat} {n : Nat} {a a' : Nat → Int32} (h : sb_Lat t n a) (hk : ∀ j, j < n → a' j = a j) : sb_Lat t n a' := fun j hj => by
  rw [hk j hj]
  exact h j hj
def sb_cap (q m : Nat) : Nat := if q ≤ m then m else if 2 * m + 2 < q then q else 2 * m + 2
def sb_Room (q m mc ms : Nat) : Prop := q ≤ m ∨ (1 ≤ mc ∧ sb_cap q m ≤ ms ∧ sb_cap q m ≤ 65536)
theorem sb_cap_ge (q m : Nat) : q ≤ sb_cap q m := by
  unfold sb_cap
  split
  · omega
  · split <;> omega
theorem sb_cap_gem (q m : Nat) : m ≤ sb_cap q m := by
  unfold sb_cap
  split
  · omega
  · split <;> omega
theorem sb_cap_le {q m mc ms : Nat} (hm : m ≤ 65536) (hr : sb_Room q m mc ms) : sb_cap q m ≤ 65536 := by
  rcases hr with h | h
  · rw [sb_cap, if_pos h]
    exact hm
  · exact h.2.2
theorem sb_at {P : Int32 → Prop} {x y : Int32} (e : x = y) (h : P y) : P x := e ▸ h
def sb_dg (w : Nat) : Nat := if w < 10 then 1 else if w < 100 then 2 else if w < 1000 then 3 else if w < 10000 then 4 else if w < 100000 then 5 else if w < 1000000 then 6 else if w < 10000000 then 7 else if w < 100000000 then 8 else if w < 1000000000 then 9 else 10
def sb_dec (v : Nat) : Nat → Nat := fun i => 48 + v / 10 ^ (sb_dg v - 1 - i) % 10
theorem sb_dg_in (w : Nat) : 1 ≤ sb_dg w ∧ sb_dg w ≤ 10 := by
  unfold sb_dg
  constructor <;> (repeat' split) <;> omega
theorem sb_dg100 {w : Nat} (h : 100 ≤ w) (hw : w < 2 ^ 31) : sb_dg w = sb_dg (w / 100) + 2 := by
  rw [sb_dg, sb_dg, if_neg (show ¬ w < 10 by omega), if_neg (show ¬ w < 100 by omega)]
  by_cases h3 : w < 1000
  · rw [if_pos h3, if_pos (show w / 100 < 10 by omega)]
  rw [if_neg h3, if_neg (show ¬ w / 100 < 10 by omega)]
  by_cases h4 : w < 10000
  · rw [if_pos h4, if_pos (show w / 100 < 100 by omega)]
  rw [if_neg h4, if_neg (show ¬ w / 100 < 100 by omega)]
  by_cases h5 : w < 100000
  · rw [if_pos h5, if_pos (show w / 100 < 1000 by omega)]
  rw [if_neg h5, if_neg (show ¬ w / 100 < 1000 by omega)]
  by_cases h6 : w < 1000000
  · rw [if_pos h6, if_pos (show w / 100 < 10000 by omega)]
  rw [if_neg h6, if_neg (show ¬ w / 100 < 10000 by omega)]
  by_cases h7 : w < 10000000
  · rw [if_pos h7, if_pos (show w / 100 < 100000 by omega)]
  rw [if_neg h7, if_neg (show ¬ w / 100 < 100000 by omega)]
  by_cases h8 : w < 100000000
  · rw [if_pos h8, if_pos (show w / 100 < 1000000 by omega)]
  rw [if_neg h8, if_neg (show ¬ w / 100 < 1000000 by omega)]
  by_cases h9 : w < 1000000000
  · rw [if_pos h9, if_pos (show w / 100 < 10000000 by omega)]
  rw [if_neg h9, if_neg (show ¬ w / 100 < 10000000 by omega)]
  rw [if_pos (show w / 100 < 100000000 by omega)]
theorem sb_negT {w : Nat} (h : w < 2 ^ 31) : (-nI w).toInt = -(w : Int) := by
  rw [Int32.toInt_neg, nI_toInt h]
  exact Int.bmod_eq_of_le (by omega) (by omega)
theorem sb_nle {a b : Nat} (ha : a < 2 ^ 31) (hb : b < 2 ^ 31) : -nI a ≤ -nI b ↔ b ≤ a := by
  rw [Int32.le_iff_toInt_le, sb_negT ha, sb_negT hb]
  omega
theorem sb_nlt {a b : Nat} (ha : a < 2 ^ 31) (hb : b < 2 ^ 31) : -nI a < -nI b ↔ b < a := by
  rw [Int32.lt_iff_toInt_lt, sb_negT ha, sb_negT hb]
  omega
theorem sb_cmp {A B : Prop} {x : Int32} (v c : Nat) (f : c ≤ v → A) (g : v < c → B) (hv : v < 2 ^ 31) (hx : x = -nI c := by rfl) (hc : c < 2 ^ 31 := by omega) : (-nI v ≤ x → A) ∧ (¬ -nI v ≤ x → B) := by
  subst hx
  rw [sb_nle hv hc]
  exact ⟨f, fun z => g (by omega)⟩
theorem sb_ndiv {w : Nat} (hw : w < 2 ^ 31) : (-nI w) / 100 = -nI (w / 100) := by
  apply Int32.toInt_inj.mp
  have h100 : (100 : Int32).toInt = 100 := by decide
  rw [Int32.toInt_div, sb_negT hw, h100, sb_negT (by omega), Int.neg_tdiv, Int.tdiv_eq_ediv_of_nonneg (by omega), Int.bmod_eq_of_le (by omega) (by omega)]
  omega
theorem sb_nrem {w : Nat} (hw : w < 2 ^ 31) : (-nI (w / 100)) * 100 - (-nI w) = nI (w % 100) := by
  have h := pk_rem (a := w) (d := 100) hw (by decide) (by decide)
  rw [pk_div hw (by decide) (by decide)] at h
  rw [← h]
  show (-nI (w / 100)) * nI 100 - (-nI w) = nI w - nI (w / 100) * nI 100
  rw [Int32.neg_mul, Int32.sub_neg, Int32.add_comm, ← Int32.sub_eq_add_neg]
end
section
/-! rows on bits, shifts and unsigned numbers, to paste: each family out of a closed proof of our own, whole with what it rests on; each by itself clean at Lean in its own claim (generation 39, form 5). Take a family whole -/
/-! ===== Int32 by its bits: bt x i ===== -/
def bt (x : Int32) (i : Nat) : Bool := x.toBitVec.getLsbD i
theorem b_ext {x y : Int32} (h : ∀ i, i < 32 → bt x i = bt y i) : x = y := Int32.toBitVec_inj.mp (BitVec.eq_of_getLsbD_eq (fun i hi => h i hi))
theorem b_or (x y : Int32) (i : Nat) : bt (x ||| y) i = (bt x i || bt y i) := by unfold bt; rw [Int32.toBitVec_or, BitVec.getLsbD_or]
theorem b_and (x y : Int32) (i : Nat) : bt (x &&& y) i = (bt x i && bt y i) := by unfold bt; rw [Int32.toBitVec_and, BitVec.getLsbD_and]
theorem b_xor (x y : Int32) (i : Nat) : bt (x ^^^ y) i = (bt x i ^^ bt y i) := by unfold bt; rw [Int32.toBitVec_xor, BitVec.getLsbD_xor]
theorem b_big {x : Int32} {i : Nat} (h : 32 ≤ i) : bt x i = false := BitVec.getLsbD_of_ge _ _ h
theorem b_255 (i : Nat) : bt 255 i = decide (i < 8) := by
  rcases Nat.lt_or_ge i 32 with h | h
  · exact (by decide +kernel : ∀ i, i < 32 → bt 255 i = decide (i < 8)) i h
  · rw [b_big h, decide_eq_false (by omega)]
theorem b_65535 (i : Nat) : bt 65535 i = decide (i < 16) := by
  rcases Nat.lt_or_ge i 32 with h | h
  · exact (by decide +kernel : ∀ i, i < 32 → bt 65535 i = decide (i < 16)) i h
  · rw [b_big h, decide_eq_false (by omega)]
theorem b_m1 : ∀ i, i < 32 → bt (-1) i = true := by decide +kernel
theorem b_0 (i : Nat) : bt 0 i = false := BitVec.getLsbD_zero
theorem s_l : ∀ n, n < 32 → ((nI n &&& 31).toBitVec.smod 32).toNat = n := by decide +kernel
theorem s_u : ∀ n, n < 32 → (((nI n).toUInt32 &&& Int32.toUInt32 31).toBitVec % 32).toNat = n := by decide +kernel
theorem b_shl (n : Nat) (hn : n < 32) (x : Int32) {i : Nat} (hi : i < 32) : bt (x <<< (nI n &&& 31)) i = (decide (n ≤ i) && bt x (i - n)) := by
  unfold bt
  rw [Int32.toBitVec_shiftLeft]
  show (x.toBitVec <<< ((nI n &&& 31).toBitVec.smod 32).toNat).getLsbD i = _
  rw [s_l n hn, BitVec.getLsbD_shiftLeft]
  rcases Nat.lt_or_ge i n with h | h
  · simp [h, Nat.not_le.mpr h]
  · simp [hi, h, Nat.not_lt.mpr h]
theorem b_ushr (n : Nat) (hn : n < 32) (x : Int32) (i : Nat) : bt ((x.toUInt32 >>> ((nI n).toUInt32 &&& Int32.toUInt32 31)).toInt32) i = bt x (n + i) := by
  show (x.toUInt32 >>> ((nI n).toUInt32 &&& Int32.toUInt32 31)).toBitVec.getLsbD i = x.toUInt32.toBitVec.getLsbD (n + i)
  rw [UInt32.toBitVec_shiftRight]
  show (x.toUInt32.toBitVec >>> (((nI n).toUInt32 &&& Int32.toUInt32 31).toBitVec % 32).toNat).getLsbD i = _
  rw [s_u n hn, BitVec.getLsbD_ushiftRight]
theorem b_sshr (n : Nat) (hn : n < 32) (x : Int32) {i : Nat} (hi : i < 32) : bt (x >>> (nI n &&& 31)) i = if n + i < 32 then bt x (n + i) else bt x 31 := by
  unfold bt
  rw [Int32.toBitVec_shiftRight]
  show (x.toBitVec.sshiftRight ((nI n &&& 31).toBitVec.smod 32).toNat).getLsbD i = _
  rw [s_l n hn, BitVec.getLsbD_sshiftRight, BitVec.msb_eq_getLsbD_last]
  simp [hi]
theorem b_shl8 (x : Int32) {i : Nat} (hi : i < 32) : bt (x <<< ((8 : Int32) &&& 31)) i = (decide (8 ≤ i) && bt x (i - 8)) := b_shl 8 (by omega) x hi
theorem b_shl16 (x : Int32) {i : Nat} (hi : i < 32) : bt (x <<< ((16 : Int32) &&& 31)) i = (decide (16 ≤ i) && bt x (i - 16)) := b_shl 16 (by omega) x hi
theorem b_shl24 (x : Int32) {i : Nat} (hi : i < 32) : bt (x <<< ((24 : Int32) &&& 31)) i = (decide (24 ≤ i) && bt x (i - 24)) := b_shl 24 (by omega) x hi
theorem b_sshr8 (x : Int32) {i : Nat} (hi : i < 32) : bt (x >>> ((8 : Int32) &&& 31)) i = if 8 + i < 32 then bt x (8 + i) else bt x 31 := b_sshr 8 (by omega) x hi
/-! ===== nI under and, xor, >>>, one bit, 65535 ===== -/
theorem nx_and (a b : Nat) : nI a &&& nI b = nI (a &&& b) := by
  apply Int32.toBitVec_inj.1
  show BitVec.ofNat 32 a &&& BitVec.ofNat 32 b = BitVec.ofNat 32 (a &&& b)
  apply BitVec.eq_of_getLsbD_eq
  intro i hi
  simp [hi]
theorem nx_xor (a b : Nat) : nI a ^^^ nI b = nI (a ^^^ b) := by
  apply Int32.toBitVec_inj.1
  show BitVec.ofNat 32 a ^^^ BitVec.ofNat 32 b = BitVec.ofNat 32 (a ^^^ b)
  apply BitVec.eq_of_getLsbD_eq
  intro i hi
  simp [hi]
theorem nx_cnt : ∀ j : Fin 32, (UInt32.ofNat j.val &&& Int32.toUInt32 31).toNat % 32 = j.val := by decide +kernel
theorem nx_ush {k j : Nat} (hk : k < 65536) (hj : j < 32) : ((nI k).toUInt32 >>> ((nI j).toUInt32 &&& Int32.toUInt32 31)).toInt32 = nI (k >>> j) := by
  have hs : k >>> j ≤ k := by
    rw [Nat.shiftRight_eq_div_pow]
    exact Nat.div_le_self _ _
  have e2 : UInt32.ofNat k >>> (UInt32.ofNat j &&& Int32.toUInt32 31) = UInt32.ofNat (k >>> j) := by
    apply UInt32.toNat_inj.1
    have h1 : (UInt32.ofNat k).toNat = k := Nat.mod_eq_of_lt (by omega)
    have h2 : (UInt32.ofNat (k >>> j)).toNat = k >>> j := Nat.mod_eq_of_lt (by omega)
    rw [UInt32.toNat_shiftRight, nx_cnt ⟨j, hj⟩, h1, h2]
  show (UInt32.ofNat k >>> (UInt32.ofNat j &&& Int32.toUInt32 31)).toInt32 = _
  rw [e2]
  rfl
theorem nx_bit {k j : Nat} (hk : k < 65536) (hj : j < 16) : (((nI k).toUInt32 >>> ((nI j).toUInt32 &&& Int32.toUInt32 31)).toInt32 &&& 1) = 0 ↔ k.testBit j = false := by
  rw [nx_ush hk (by omega)]
  show nI (k >>> j) &&& nI 1 = 0 ↔ _
  rw [nx_and, Nat.and_one_is_mod, ← nI_0, nI_eq (by omega) (by omega), Nat.testBit_eq_decide_div_mod_eq, Nat.shiftRight_eq_div_pow, decide_eq_false_iff_not]
  generalize k / 2 ^ j = z
  omega
theorem nx_mod (k : Nat) : nI k &&& 65535 = nI (k % 65536) := by
  show nI k &&& nI 65535 = _
  rw [nx_and, show (65535 : Nat) = 2 ^ 16 - 1 from rfl, Nat.and_two_pow_sub_one_eq_mod]
theorem nx_m16 {k : Nat} (h : k < 65536) : nI k &&& 65535 = nI k := by rw [nx_mod, Nat.mod_eq_of_lt h]
theorem nx_mask (x : Int32) : ∃ k, k < 65536 ∧ x &&& 65535 = nI k := by
  have e : x = nI x.toBitVec.toNat := by
    apply Int32.toBitVec_inj.1
    show x.toBitVec = BitVec.ofNat 32 x.toBitVec.toNat
    simp
  refine ⟨x.toBitVec.toNat % 65536, Nat.mod_lt _ (by omega), ?_⟩
  rw [← nx_mod, ← e]
/-! ===== Int32 as a set of bits: test, set ===== -/
def nf_M (m : Int32) : Nat := 4294967296 - m.toBitVec.toNat
theorem nf_sh : ∀ l, l < 32 → ((1 : Int32) <<< (nI l &&& 31)).toBitVec = BitVec.twoPow 32 l := by decide +kernel
theorem nf_sl : ∀ l, l < 32 → (((nI l).toUInt32 &&& Int32.toUInt32 31).toBitVec % 32).toNat = l := by decide +kernel
theorem nf_tp : ∀ l, l < 32 → BitVec.twoPow 32 l ≠ 0#32 := by decide +kernel
theorem nf_bit (m : Int32) (l : Nat) (hl : l < 32) : ((m.toUInt32 >>> ((nI l).toUInt32 &&& Int32.toUInt32 31)).toInt32 &&& 1) = 0 ↔ (m &&& ((1 : Int32) <<< (nI l &&& 31))) = 0 := by
  have e : ((m.toUInt32 >>> ((nI l).toUInt32 &&& Int32.toUInt32 31)).toInt32).toBitVec = m.toBitVec >>> l := by
    show m.toBitVec >>> (((nI l).toUInt32 &&& Int32.toUInt32 31).toBitVec % 32) = m.toBitVec >>> l
    rw [BitVec.ushiftRight_eq', nf_sl l hl]
  rw [← Int32.toBitVec_inj, ← Int32.toBitVec_inj, Int32.toBitVec_and, Int32.toBitVec_and, nf_sh l hl, e, BitVec.and_twoPow]
  show (m.toBitVec >>> l &&& 1#32) = 0#32 ↔ _ = 0#32
  rw [BitVec.and_one_eq_setWidth_ofBool_getLsbD, BitVec.getLsbD_ushiftRight, Nat.add_zero]
  cases hb : m.toBitVec.getLsbD l
  · exact ⟨fun _ => by simp, fun _ => by decide⟩
  · exact ⟨fun z => absurd z (by decide), fun z => absurd ((if_pos rfl).symm.trans z) (nf_tp l hl)⟩
theorem nf_gr (m k : Int32) (h : m &&& k = 0) (hk : k ≠ 0) : nf_M (m ||| k) < nf_M m := by
  have hm := m.toBitVec.isLt
  have hm' := (m ||| k).toBitVec.isLt
  have h1 : m.toBitVec.toNat ≤ (m ||| k).toBitVec.toNat := by
    rw [Int32.toBitVec_or, BitVec.toNat_or]
    exact Nat.left_le_or
  have h2 : m.toBitVec.toNat ≠ (m ||| k).toBitVec.toNat := by
    intro e
    have e2 : m = m ||| k := Int32.toBitVec_inj.mp (BitVec.eq_of_toNat_eq e)
    apply hk
    apply Int32.toBitVec_inj.mp
    show k.toBitVec = 0#32
    apply BitVec.eq_of_getLsbD_eq
    intro i hi
    have a : m.toBitVec.getLsbD i = (m.toBitVec.getLsbD i || k.toBitVec.getLsbD i) := by rw [← BitVec.getLsbD_or, ← Int32.toBitVec_or, ← e2]
    have b : (m.toBitVec.getLsbD i && k.toBitVec.getLsbD i) = false := by
      rw [← BitVec.getLsbD_and, ← Int32.toBitVec_and, h]
      exact BitVec.getLsbD_zero
    rw [BitVec.getLsbD_zero]
    revert a b
    cases m.toBitVec.getLsbD i <;> cases k.toBitVec.getLsbD i <;> simp
  unfold nf_M
  omega
/-! ===== a byte read unsigned ===== -/
theorem bp_b (x : Int32) : x.toInt8.toInt32 &&& 255 = x &&& 255 := by
  apply Int32.toBitVec_inj.mp
  rw [Int32.toBitVec_and, Int32.toBitVec_and, Int8.toBitVec_toInt32, Int32.toBitVec_toInt8]
  apply BitVec.eq_of_getLsbD_eq
  intro i hi
  rw [BitVec.getLsbD_and, BitVec.getLsbD_and]
  have hm : ∀ i < 32, 8 ≤ i → (255 : Int32).toBitVec.getLsbD i = false := by decide
  rcases Nat.lt_or_ge i 8 with z | z
  · rw [BitVec.getLsbD_signExtend, BitVec.getLsbD_signExtend, if_pos z, if_pos hi]
    simp only [z, hi, decide_true, Bool.true_and]
  · rw [hm i hi z]; simp
/-! ===== the char cast and 65535 ===== -/
theorem em_w (v : Int32) : ∃ w : Nat, w < 65536 ∧ (v.toUInt32 % 65536).toInt32 = nI w ∧ v &&& 65535 = nI w := by
  have hr := lw_u16_r v
  have h0 : (0 : Int32).toInt = 0 := by decide
  obtain ⟨w, h1, h2⟩ := nI_of (x := lw_u16 v) (by rw [Int32.lt_iff_toInt_lt]; omega)
  have h3 : (v.toUInt32 % 65536).toInt32 = nI w := h2
  rw [h2, nI_toInt h1] at hr
  exact ⟨w, by omega, h3, by rw [← lg_i2c_mask, ← lg_i2c_nf, h3]⟩
/-! ===== Int64 as a set of bits: test, set, clear ===== -/
theorem ts_nf {x : Bool} (h : ¬ x = false) : x = true := by cases x <;> first | rfl | exact absurd rfl h
theorem ts_nt {x : Bool} (h : ¬ x = true) : x = false := by cases x <;> first | rfl | exact absurd rfl h
theorem ts_bit {w : Int64} {s : UInt64} {j : Nat} (hj : j < 64) (hs : s.toNat = j) : ((w.toUInt64 >>> s).toInt64 &&& 1) = 0 ↔ w.toBitVec.getLsbD j = false := by
  have e : (w.toUInt64 >>> s).toInt64.toBitVec = w.toBitVec >>> j := by
    apply BitVec.eq_of_toNat_eq
    show (w.toUInt64 >>> s).toNat = _
    rw [UInt64.toNat_shiftRight, hs, Nat.mod_eq_of_lt hj, BitVec.toNat_ushiftRight]
    rfl
  rw [← Int64.toBitVec_inj, Int64.toBitVec_and, e]
  show w.toBitVec >>> j &&& 1#64 = 0#64 ↔ _
  constructor
  · intro h
    have t := congrArg (fun x => x.getLsbD 0) h
    simpa using t
  · intro h
    apply BitVec.eq_of_getLsbD_eq
    intro i hi
    cases i with
    | zero => simp [h]
    | succ i => simp
theorem ts_or {w m : Int64} {j : Nat} (hj : j < 64) (hm : m.toBitVec = BitVec.twoPow 64 j) : (w ||| m) = w ↔ w.toBitVec.getLsbD j = true := by
  rw [← Int64.toBitVec_inj, Int64.toBitVec_or, hm]
  constructor
  · intro h
    have t := congrArg (fun x => x.getLsbD j) h
    simp only [BitVec.getLsbD_or, BitVec.getLsbD_twoPow] at t
    simpa [hj] using t.symm
  · intro h
    apply BitVec.eq_of_getLsbD_eq
    intro i hi
    rw [BitVec.getLsbD_or, BitVec.getLsbD_twoPow]
    by_cases e : j = i
    · subst e; rw [h, Bool.true_or]
    · simp [e]
theorem ts_and {w m : Int64} {j : Nat} (hj : j < 64) (hm : m.toBitVec = BitVec.twoPow 64 j) : (w &&& (m ^^^ (-1))) = w ↔ w.toBitVec.getLsbD j = false := by
  have ha : (-1 : Int64).toBitVec = BitVec.allOnes 64 := by decide
  rw [← Int64.toBitVec_inj, Int64.toBitVec_and, Int64.toBitVec_xor, hm, ha]
  constructor
  · intro h
    have t := congrArg (fun x => x.getLsbD j) h
    simp only [BitVec.getLsbD_and, BitVec.getLsbD_xor, BitVec.getLsbD_twoPow, BitVec.getLsbD_allOnes] at t
    simpa [hj] using t.symm
  · intro h
    apply BitVec.eq_of_getLsbD_eq
    intro i hi
    rw [BitVec.getLsbD_and, BitVec.getLsbD_xor, BitVec.getLsbD_twoPow, BitVec.getLsbD_allOnes]
    by_cases e : j = i
    · subst e; rw [h, Bool.false_and]
    · simp [e, hi]
/-! ===== lN n to 2^64: shifts, and, or, masks, one bit ===== -/
theorem wb_tb (n : Nat) : (lN n).toBitVec = BitVec.ofNat 64 n := rfl
theorem wb_inj {a b : Int64} (h : a.toBitVec = b.toBitVec) : a = b := Int64.toBitVec_inj.mp h
theorem wb_tn {n : Nat} (h : n < 2 ^ 64) : (lN n).toBitVec.toNat = n := by rw [wb_tb, BitVec.toNat_ofNat, Nat.mod_eq_of_lt h]
theorem wb_of (x : Int64) : ∃ n, n < 2 ^ 64 ∧ x = lN n := ⟨x.toBitVec.toNat, x.toBitVec.isLt, wb_inj (by rw [wb_tb]; simp)⟩
theorem wb_of32 (x : Int32) : ∃ n, n < 2 ^ 32 ∧ x = nI n := ⟨x.toBitVec.toNat, x.toBitVec.isLt, Int32.toBitVec_inj.mp (by show _ = BitVec.ofNat 32 _; simp)⟩
theorem wb_c : ∀ k, k < 64 → ((nI k).toInt64 &&& 63) = lN k := by decide +kernel
theorem wb_cu : ∀ k, k < 64 → ((nI k).toInt64.toUInt64 &&& Int64.toUInt64 63) = UInt64.ofNat k := by decide +kernel
theorem wb_sm : ∀ k, k < 64 → (BitVec.ofNat 64 k).smod 64 = BitVec.ofNat 64 k := by decide +kernel
theorem wb_pw {a b : Nat} (h : a ≤ b) : 2 ^ b = 2 ^ a * 2 ^ (b - a) := by rw [← Nat.pow_add]; congr 1; omega
theorem wb_lt2 {a b : Nat} (h : a < b) : 2 ^ a < 2 ^ b := Nat.pow_lt_pow_right (by decide) h
theorem wb_mod (n : Nat) : lN n = lN (n % 2 ^ 64) := wb_inj (by rw [wb_tb, wb_tb]; apply BitVec.eq_of_toNat_eq; rw [BitVec.toNat_ofNat, BitVec.toNat_ofNat, Nat.mod_mod])
theorem wb_shr {n k : Nat} (hn : n < 2 ^ 64) (hk : k < 64) : ((lN n).toUInt64 >>> ((nI k).toInt64.toUInt64 &&& Int64.toUInt64 63)).toInt64 = lN (n / 2 ^ k) := by
  rw [wb_cu k hk]
  apply wb_inj
  apply BitVec.eq_of_toNat_eq
  show ((lN n).toUInt64 >>> UInt64.ofNat k).toNat = (BitVec.ofNat 64 _).toNat
  have h1 : (UInt64.ofNat k).toNat = k := by
    show (BitVec.ofNat 64 k).toNat = k
    rw [BitVec.toNat_ofNat, Nat.mod_eq_of_lt (by omega)]
  have h2 : (lN n).toUInt64.toNat = n := wb_tn hn
  rw [UInt64.toNat_shiftRight, h1, h2, Nat.mod_eq_of_lt hk, Nat.shiftRight_eq_div_pow, BitVec.toNat_ofNat, Nat.mod_eq_of_lt (Nat.lt_of_le_of_lt (Nat.div_le_self _ _) hn)]
theorem wb_shl (n : Nat) {k : Nat} (hk : k < 64) : lN n <<< ((nI k).toInt64 &&& 63) = lN (n * 2 ^ k) := by
  rw [wb_c k hk]
  apply wb_inj
  rw [Int64.toBitVec_shiftLeft, wb_tb, wb_tb, wb_tb, wb_sm k hk]
  apply BitVec.eq_of_toNat_eq
  rw [BitVec.shiftLeft_eq', BitVec.toNat_shiftLeft, BitVec.toNat_ofNat, BitVec.toNat_ofNat, BitVec.toNat_ofNat, Nat.mod_eq_of_lt (show k < 2 ^ 64 by omega), Nat.shiftLeft_eq, Nat.mul_mod, Nat.mod_mod, ← Nat.mul_mod]
theorem wb_and {a b : Nat} (ha : a < 2 ^ 64) (hb : b < 2 ^ 64) : lN a &&& lN b = lN (a &&& b) := by
  apply wb_inj
  rw [Int64.toBitVec_and, wb_tb, wb_tb, wb_tb]
  apply BitVec.eq_of_toNat_eq
  rw [BitVec.toNat_and, BitVec.toNat_ofNat, BitVec.toNat_ofNat, BitVec.toNat_ofNat, Nat.mod_eq_of_lt ha, Nat.mod_eq_of_lt hb, Nat.mod_eq_of_lt (Nat.and_lt_two_pow _ hb)]
theorem wb_or {a b : Nat} (ha : a < 2 ^ 64) (hb : b < 2 ^ 64) : lN a ||| lN b = lN (a ||| b) := by
  apply wb_inj
  rw [Int64.toBitVec_or, wb_tb, wb_tb, wb_tb]
  apply BitVec.eq_of_toNat_eq
  rw [BitVec.toNat_or, BitVec.toNat_ofNat, BitVec.toNat_ofNat, BitVec.toNat_ofNat, Nat.mod_eq_of_lt ha, Nat.mod_eq_of_lt hb, Nat.mod_eq_of_lt (Nat.or_lt_two_pow ha hb)]
theorem wb_mask {n k : Nat} (hn : n < 2 ^ 64) (hk : k < 64) : lN n &&& lN (2 ^ k - 1) = lN (n % 2 ^ k) := by
  rw [wb_and hn (by have := wb_lt2 hk; omega), Nat.and_two_pow_sub_one_eq_mod]
theorem wb_a1 {n : Nat} (hn : n < 2 ^ 64) : lN n &&& 1 = lN (n % 2) := wb_mask (k := 1) hn (by decide)
theorem wb_bit {n k : Nat} (hn : n < 2 ^ 64) (hk : k < 64) : ((lN n).toUInt64 >>> ((nI k).toInt64.toUInt64 &&& Int64.toUInt64 63)).toInt64 &&& 1 = lN (n / 2 ^ k % 2) := by
  rw [wb_shr hn hk, wb_a1 (Nat.lt_of_le_of_lt (Nat.div_le_self _ _) hn)]
theorem wb_xor {q k : Nat} (hk : k < 63) (h : 2 ^ k ≤ q) (h2 : q < 2 ^ (k + 1)) : lN q ^^^ lN (2 ^ k) = lN (q - 2 ^ k) := by
  obtain ⟨r, rfl⟩ : ∃ r, q = 2 ^ k + r := ⟨q - 2 ^ k, by omega⟩
  have hr : r < 2 ^ k := by rw [Nat.pow_succ] at h2; omega
  have hx : (2 ^ k + r) ^^^ 2 ^ k = r := by
    apply Nat.eq_of_testBit_eq
    intro i
    rw [Nat.testBit_xor, Nat.testBit_two_pow]
    rcases Nat.lt_trichotomy i k with h | h | h
    · rw [Nat.testBit_two_pow_add_gt h]
      simp [show ¬ k = i by omega]
    · subst h
      rw [Nat.testBit_two_pow_add_eq]
      simp
    · have a1 : 2 ^ (k + 1) ≤ 2 ^ i := Nat.pow_le_pow_right (by decide) h
      rw [Nat.testBit_lt_two_pow (show 2 ^ k + r < 2 ^ i by omega), Nat.testBit_lt_two_pow (show r < 2 ^ i by omega)]
      simp [show ¬ k = i by omega]
  have b1 := wb_lt2 (show k + 1 < 64 by omega)
  have b2 := wb_lt2 (show k < 64 by omega)
  apply wb_inj
  rw [Int64.toBitVec_xor, wb_tb, wb_tb, wb_tb]
  apply BitVec.eq_of_toNat_eq
  rw [BitVec.toNat_xor, BitVec.toNat_ofNat, BitVec.toNat_ofNat, BitVec.toNat_ofNat, Nat.mod_eq_of_lt (by omega : 2 ^ k + r < 2 ^ 64), Nat.mod_eq_of_lt b2, hx, Nat.add_sub_cancel_left, Nat.mod_eq_of_lt (by omega)]
/-! ===== lN: masks, 'or' of parts that don't overlap is a sum ===== -/
theorem u_tn {n : Nat} (h : n < 2 ^ 64) : (UInt64.ofNat n).toNat = n := Nat.mod_eq_of_lt h
theorem g_and {a b c : Nat} (ha : a < 2 ^ 64) (hb : b < 2 ^ 64) (hc : a &&& b = c) : lN a &&& lN b = lN c := by
  subst hc
  have h : UInt64.ofNat a &&& UInt64.ofNat b = UInt64.ofNat (a &&& b) := UInt64.toNat_inj.mp (by rw [UInt64.toNat_and, u_tn ha, u_tn hb, u_tn (Nat.and_lt_two_pow a hb)])
  have h2 := congrArg UInt64.toInt64 h
  exact h2
theorem g_and1 {a : Nat} (ha : a < 2 ^ 64) : lN a &&& 1 = lN (a % 2) := g_and (b := 1) ha (by decide) (Nat.and_two_pow_sub_one_eq_mod a 1)
theorem g_mask {a s p : Nat} (hp : 2 ^ s = p) (hs : s < 64) (ha : a < 2 ^ 64) : lN a &&& lN (p - 1) = lN (a % p) := by
  subst hp
  have := Nat.pow_lt_pow_right (show 1 < 2 by decide) hs
  exact g_and ha (by omega) (Nat.and_two_pow_sub_one_eq_mod a s)
theorem g_or {k p a b : Nat} (hp : 2 ^ k = p) (ha : a < p) (h : b * p + a < 2 ^ 64) : lN (b * p) ||| lN a = lN (b * p + a) := by
  subst hp
  have h1 : b * 2 ^ k ||| a = b * 2 ^ k + a := by rw [← Nat.shiftLeft_eq, Nat.shiftLeft_add_eq_or_of_lt ha]
  have h3 : UInt64.ofNat (b * 2 ^ k) ||| UInt64.ofNat a = UInt64.ofNat (b * 2 ^ k + a) := UInt64.toNat_inj.mp (by rw [UInt64.toNat_or, u_tn (by omega), u_tn (by omega), u_tn h, h1])
  have h2 := congrArg UInt64.toInt64 h3
  exact h2
theorem g_or' {k p a b : Nat} (hp : 2 ^ k = p) (ha : a < p) (h : a + b * p < 2 ^ 64) : lN a ||| lN (b * p) = lN (a + b * p) := by
  rw [Int64.or_comm, g_or hp ha (by omega), Nat.add_comm]
theorem g_ushr {a k p : Nat} {y : UInt64} (hy : y = UInt64.ofNat k) (hk : k < 64) (hp : 2 ^ k = p) (ha : a < 2 ^ 64) : ((lN a).toUInt64 >>> y).toInt64 = lN (a / p) := by
  subst hy hp
  have h : UInt64.ofNat a >>> UInt64.ofNat k = UInt64.ofNat (a / 2 ^ k) := UInt64.toNat_inj.mp (by rw [UInt64.toNat_shiftRight, u_tn ha, u_tn (by omega), u_tn (Nat.lt_of_le_of_lt (Nat.div_le_self _ _) ha), Nat.mod_eq_of_lt hk, Nat.shiftRight_eq_div_pow])
  have h2 := congrArg UInt64.toInt64 h
  exact h2
theorem g_shl {a k p : Nat} {y : Int64} (hy : y.toBitVec.smod 64 = BitVec.ofNat 64 k) (hk : k < 64) (hp : 2 ^ k = p) (ha : a < 2 ^ 64) : lN a <<< y = lN (a * p) := by
  subst hp
  apply Int64.toBitVec_inj.mp
  rw [Int64.toBitVec_shiftLeft, hy]
  apply BitVec.eq_of_toNat_eq
  have hb : (lN a).toBitVec.toNat = a := Nat.mod_eq_of_lt ha
  have hk' : (BitVec.ofNat 64 k).toNat = k := Nat.mod_eq_of_lt (by omega)
  have h : ((lN a).toBitVec <<< BitVec.ofNat 64 k).toNat = (a * 2 ^ k) % 2 ^ 64 := by simp only [BitVec.shiftLeft_eq', BitVec.toNat_shiftLeft, hb, hk', Nat.shiftLeft_eq]
  exact h
/-! ===== lN to 2^62 under >> and >>> ===== -/
theorem pf_lI {a : Nat} (h : a < 2 ^ 63) : (lN a).toInt = (a : Int) := lg_ofNat_toInt h
theorem pf_shr {a d : Nat} {D : Int64} (hD : (D.toBitVec.smod 64).toNat = d) (h : a < 2 ^ 62) : lN a >>> D = lN (a / 2 ^ d) := by
  have hd : a / 2 ^ d ≤ a := Nat.div_le_self _ _
  apply Int64.toInt_inj.mp
  have e : (lN a >>> D).toInt = (lN a).toInt >>> d := by
    rw [← hD]
    exact BitVec.toInt_sshiftRight ..
  rw [e, Int.shiftRight_eq_div_pow, pf_lI (by omega), pf_lI (by omega)]
  rfl
theorem pf_ushr {a d : Nat} {D : UInt64} (hD : D.toNat % 64 = d) (h : a < 2 ^ 62) : ((lN a).toUInt64 >>> D).toInt64 = lN (a / 2 ^ d) := by
  have hd : a / 2 ^ d ≤ a := Nat.div_le_self _ _
  have e : (lN a).toUInt64 >>> D = UInt64.ofNat (a / 2 ^ d) := UInt64.toNat_inj.mp (by
    rw [UInt64.toNat_shiftRight, hD, Nat.shiftRight_eq_div_pow, UInt64.toNat_ofNat']
    show (UInt64.ofNat a).toNat / 2 ^ d = _
    rw [UInt64.toNat_ofNat', Nat.mod_eq_of_lt (by omega), Nat.mod_eq_of_lt (by omega)])
  rw [e]
  rfl
theorem pf_andw (x : Int64) : ∃ m, m < 2 ^ 32 ∧ x &&& 4294967295 = lN m := ⟨x.toBitVec.toNat % 2 ^ 32, Nat.mod_lt _ (by decide), Int64.toBitVec_inj.mp (BitVec.eq_of_toNat_eq (by
  show (x.toBitVec &&& 4294967295#64).toNat = (BitVec.ofNat 64 (x.toBitVec.toNat % 2 ^ 32)).toNat
  rw [BitVec.toNat_and, show (4294967295#64).toNat = 2 ^ 32 - 1 from by decide, Nat.and_two_pow_sub_one_eq_mod, BitVec.toNat_ofNat]
  omega))⟩
/-! ===== Int64 as an unsigned number: uN x ===== -/
def uN (x : Int64) : Nat := x.toUInt64.toNat
theorem uN_lt (x : Int64) : uN x < 18446744073709551616 := x.toUInt64.toNat_lt
theorem uN_inj {x y : Int64} (h : uN x = uN y) : x = y := congrArg UInt64.toInt64 (UInt64.toNat_inj.mp h)
theorem uN_add (x y : Int64) : uN (x + y) = (uN x + uN y) % 18446744073709551616 := by
  show (x.toUInt64 + y.toUInt64).toNat = _
  exact UInt64.toNat_add _ _
theorem uN_mul (x y : Int64) : uN (x * y) = (uN x * uN y) % 18446744073709551616 := by
  show (x.toUInt64 * y.toUInt64).toNat = _
  exact UInt64.toNat_mul _ _
theorem uN_shl (x : Int64) : uN (x <<< ((1 : Int32).toInt64 &&& 63)) = (2 * uN x) % 18446744073709551616 := by
  have h : (((1 : Int32).toInt64 &&& 63).toBitVec.smod 64).toNat = 1 := by decide
  show (x.toBitVec <<< (((1 : Int32).toInt64 &&& 63).toBitVec.smod 64).toNat).toNat = _
  rw [h, BitVec.toNat_shiftLeft, Nat.shiftLeft_eq, Nat.mul_comm]
  rfl
theorem uN_shr (x : Int64) (s : UInt64) : uN (x.toUInt64 >>> s).toInt64 = uN x / 2 ^ (s.toNat % 64) := by
  show (x.toUInt64 >>> s).toNat = _
  rw [UInt64.toNat_shiftRight, Nat.shiftRight_eq_div_pow]
  rfl
theorem uN_s32 (x : Int64) : uN (x.toUInt64 >>> ((32 : Int32).toInt64.toUInt64 &&& Int64.toUInt64 63)).toInt64 = uN x / 4294967296 := by
  have h : ((32 : Int32).toInt64.toUInt64 &&& Int64.toUInt64 63).toNat % 64 = 32 := by decide
  rw [uN_shr, h]
theorem uN_s63 (x : Int64) : uN (x.toUInt64 >>> ((63 : Int32).toInt64.toUInt64 &&& Int64.toUInt64 63)).toInt64 = uN x / 9223372036854775808 := by
  have h : ((63 : Int32).toInt64.toUInt64 &&& Int64.toUInt64 63).toNat % 64 = 63 := by decide
  rw [uN_shr, h]
theorem uN_lo (x : Int64) : uN (x &&& 4294967295) = uN x % 4294967296 := by
  show (x.toUInt64 &&& Int64.toUInt64 4294967295).toNat = _
  rw [UInt64.toNat_and]
  exact Nat.and_two_pow_sub_one_eq_mod _ 32
theorem uN_bit (x : Int64) : (x &&& 1) = 0 ↔ uN x % 2 = 0 := by
  have h : uN (x &&& 1) = uN x % 2 := by
    show (x.toUInt64 &&& Int64.toUInt64 1).toNat = _
    rw [UInt64.toNat_and]
    exact Nat.and_two_pow_sub_one_eq_mod _ 1
  rw [← h]
  exact ⟨fun z => by rw [z]; rfl, fun z => uN_inj (z.trans rfl)⟩
theorem uN_or {x y : Int64} (hy : uN y < 2) : uN ((x <<< ((1 : Int32).toInt64 &&& 63)) ||| y) = (2 * uN x) % 18446744073709551616 + uN y := by
  have h1 : uN ((x <<< ((1 : Int32).toInt64 &&& 63)) ||| y) = uN (x <<< ((1 : Int32).toInt64 &&& 63)) ||| uN y := UInt64.toNat_or _ _
  have h2 : (2 * uN x) % 18446744073709551616 = 2 ^ 1 * (uN x % 9223372036854775808) := by omega
  rw [h1, uN_shl, h2]
  exact (Nat.two_pow_add_eq_or_of_lt (i := 1) hy _).symm
theorem nat_xor {a : Nat} (h : a < 18446744073709551616) : a ^^^ 2 ^ 63 = (a + 9223372036854775808) % 18446744073709551616 := by
  have h1 : (a ^^^ 2 ^ 63) % 2 ^ 63 = a % 2 ^ 63 := by rw [Nat.xor_mod_two_pow, Nat.mod_self, Nat.xor_zero]
  have h2 : (a ^^^ 2 ^ 63) / 2 ^ 63 = (a / 2 ^ 63) ^^^ 1 := by rw [Nat.xor_div_two_pow, Nat.div_self (Nat.two_pow_pos 63)]
  have h3 : a / 2 ^ 63 = 0 ∨ a / 2 ^ 63 = 1 := by omega
  generalize a ^^^ 2 ^ 63 = t at h1 h2
  rcases h3 with h3 | h3
  · rw [h3] at h2
    have h2 : t / 2 ^ 63 = 1 := h2
    omega
  · rw [h3] at h2
    have h2 : t / 2 ^ 63 = 0 := h2
    omega
theorem uN_xor (x : Int64) : uN (x ^^^ (-9223372036854775808)) = (uN x + 9223372036854775808) % 18446744073709551616 := by
  rw [← nat_xor (uN_lt x)]
  exact UInt64.toNat_xor _ _
theorem uN_int (x : Int64) : x.toInt = if 2 * uN x < 18446744073709551616 then (uN x : Int) else (uN x : Int) - 18446744073709551616 := BitVec.toInt_eq_toNat_cond _
theorem uN_le (x y : Int64) : (x ^^^ (-9223372036854775808)) ≤ (y ^^^ (-9223372036854775808)) ↔ uN x ≤ uN y := by
  have hx := uN_lt x
  have hy := uN_lt y
  rw [Int64.le_iff_toInt_le, uN_int, uN_int, uN_xor, uN_xor]
  omega
theorem uN_sk (x : Int64) {k : Nat} (hk : k < 64) : uN (x.toUInt64 >>> ((nI k).toInt64.toUInt64 &&& Int64.toUInt64 63)).toInt64 = uN x / 2 ^ k := by
  have h : ((nI k).toInt64.toUInt64 &&& Int64.toUInt64 63).toNat % 64 = k := by
    rw [nI_l (by omega), UInt64.toNat_and]
    have e : (lN k).toUInt64.toNat = k % 2 ^ 64 := rfl
    have e2 : (Int64.toUInt64 63).toNat = 2 ^ 6 - 1 := by decide
    rw [e, e2, Nat.and_two_pow_sub_one_eq_mod]
    omega
  rw [uN_shr, h]
/-! ===== unsigned comparison by xor with the least ===== -/
theorem lN_bv (n : Nat) : (lN n).toBitVec = BitVec.ofNat 64 n := rfl
theorem lN_nat {n : Nat} (h : n < 2 ^ 64) : (lN n).toBitVec.toNat = n := by rw [lN_bv, BitVec.toNat_ofNat]; exact Nat.mod_eq_of_lt h
theorem lN_xor (a b : Nat) : lN a ^^^ lN b = lN (a ^^^ b) := by
  apply Int64.toBitVec_inj.mp; rw [Int64.toBitVec_xor, lN_bv, lN_bv, lN_bv]; apply BitVec.eq_of_getLsbD_eq; intro i hi; simp [BitVec.getLsbD_ofNat, Nat.testBit_xor, hi]
theorem lN_ti {m : Nat} (h : m < 2 ^ 64) : (lN m).toInt = if m < 2 ^ 63 then (m : Int) else (m : Int) - 2 ^ 64 := by
  have c := BitVec.toInt_eq_toNat_cond (lN m).toBitVec
  rw [lN_nat h] at c
  show (lN m).toBitVec.toInt = _
  rw [c]
  split <;> split <;> omega
theorem xor63 {x : Nat} (h : x < 2 ^ 63) : x ^^^ 2 ^ 63 = 2 ^ 63 + x := by
  apply Nat.eq_of_testBit_eq
  intro i
  rw [Nat.testBit_xor, Nat.testBit_two_pow]
  rcases Nat.lt_trichotomy i 63 with z | z | z
  · rw [Nat.testBit_two_pow_add_gt z, decide_eq_false (by omega)]; simp
  · subst z; rw [Nat.testBit_two_pow_add_eq]; simp
  · have hp : 2 ^ 64 ≤ 2 ^ i := Nat.pow_le_pow_right (by decide) z
    rw [Nat.testBit_lt_two_pow (show x < 2 ^ i by omega), Nat.testBit_lt_two_pow (show 2 ^ 63 + x < 2 ^ i by omega), decide_eq_false (by omega)]; rfl
theorem xorS {a : Nat} (h : a < 2 ^ 64) : (lN a ^^^ (-9223372036854775808)).toInt = (a : Int) - 2 ^ 63 := by
  rw [show (-9223372036854775808 : Int64) = lN (2 ^ 63) from by decide +kernel, lN_xor]
  rcases Nat.lt_or_ge a (2 ^ 63) with z | z
  · rw [xor63 z, lN_ti (by omega), if_neg (by omega)]; omega
  · obtain ⟨x, rfl⟩ : ∃ x, a = 2 ^ 63 + x := ⟨a - 2 ^ 63, by omega⟩
    rw [← xor63 (by omega), Nat.xor_assoc, Nat.xor_self, Nat.xor_zero, lN_ti (by omega), if_pos (by omega), xor63 (by omega)]; omega
theorem ultL {a b : Nat} (ha : a < 2 ^ 64) (hb : b < 2 ^ 64) : ((lN b ^^^ (-9223372036854775808)) ≤ (lN a ^^^ (-9223372036854775808))) ↔ b ≤ a := by
  rw [Int64.le_iff_toInt_le, xorS ha, xorS hb]; omega
/-! ===== Int64 masks of n low bits ===== -/
theorem cr_bits (W U M : BitVec 64) : ((W &&& U) &&& (U &&& (M ^^^ BitVec.allOnes 64))) = 0#64 ↔ (W &&& U) &&& M = W &&& U := by
  constructor
  · intro h
    apply BitVec.eq_of_getLsbD_eq
    intro i hi
    have e := congrArg (fun x => BitVec.getLsbD x i) h
    simp only [BitVec.getLsbD_and, BitVec.getLsbD_xor, BitVec.getLsbD_allOnes, BitVec.getLsbD_zero, hi, decide_true] at e ⊢
    revert e
    cases W.getLsbD i <;> cases U.getLsbD i <;> cases M.getLsbD i <;> decide
  · intro h
    apply BitVec.eq_of_getLsbD_eq
    intro i hi
    have e := congrArg (fun x => BitVec.getLsbD x i) h
    simp only [BitVec.getLsbD_and, BitVec.getLsbD_xor, BitVec.getLsbD_allOnes, BitVec.getLsbD_zero, hi, decide_true] at e ⊢
    revert e
    cases W.getLsbD i <;> cases U.getLsbD i <;> cases M.getLsbD i <;> decide
theorem cr_mask (w U m : Int64) (n : Nat) (hm : m.toBitVec.toNat = 2 ^ n - 1) : ((w &&& U) &&& (U &&& (m ^^^ (-1)))) = 0 ↔ (w &&& U).toBitVec.toNat < 2 ^ n := by
  have e0 : (-1 : Int64).toBitVec = BitVec.allOnes 64 := by decide
  have z0 : (0 : Int64).toBitVec = 0#64 := by decide
  rw [← Int64.toBitVec_inj, z0, Int64.toBitVec_and, Int64.toBitVec_and, Int64.toBitVec_and, Int64.toBitVec_xor, e0, cr_bits]
  generalize w.toBitVec &&& U.toBitVec = T
  rw [← BitVec.toNat_inj, BitVec.toNat_and, hm, Nat.and_two_pow_sub_one_eq_mod]
  constructor
  · intro h
    have t := Nat.mod_lt T.toNat (Nat.two_pow_pos n)
    rw [h] at t
    exact t
  · exact Nat.mod_eq_of_lt
theorem cr_shr (t : Int64) (x : UInt64) (n : Nat) (hx : x.toNat % 64 = n) : (t.toUInt64 >>> x).toInt64 = 0 ↔ t.toBitVec.toNat < 2 ^ n := by
  rw [← Int64.toBitVec_inj, ← BitVec.toNat_inj]
  show (t.toUInt64 >>> x).toNat = 0 ↔ t.toUInt64.toNat < 2 ^ n
  rw [UInt64.toNat_shiftRight, hx, Nat.shiftRight_eq_div_pow]
  constructor
  · intro h
    have d : t.toUInt64.toNat / 2 ^ n < 1 := by
      rw [h]
      decide
    have e := (Nat.div_lt_iff_lt_mul (Nat.two_pow_pos n)).mp d
    rw [Nat.one_mul] at e
    exact e
  · exact Nat.div_eq_of_lt
theorem cr_amt (s : Int64) : ∃ n, n < 64 ∧ s &&& 63 = lN n ∧ (s.toUInt64 &&& Int64.toUInt64 63).toNat % 64 = n := by
  have e : (s.toUInt64 &&& Int64.toUInt64 63).toNat = s.toUInt64.toNat % 2 ^ 6 := by
    rw [UInt64.toNat_and, show (Int64.toUInt64 63).toNat = 2 ^ 6 - 1 from by decide, Nat.and_two_pow_sub_one_eq_mod]
  refine ⟨s.toUInt64.toNat % 2 ^ 6, by omega, ?_, by omega⟩
  rw [← Int64.toBitVec_inj, ← BitVec.toNat_inj]
  show (s.toUInt64 &&& Int64.toUInt64 63).toNat = (BitVec.ofNat 64 (s.toUInt64.toNat % 2 ^ 6)).toNat
  rw [e, BitVec.toNat_ofNat]
  omega
end
section
/-! arrays of naturals, of naturals with a hole, and the rows that bring a printed predicate to naturals -/
def ar_N (f : Nat → Nat) : Nat → Int32 := fun i => nI (f i)
def ar_i (n : Nat) : Int32 := match n with
  | 0 => -1
  | n + 1 => nI n
def ar_O (f : Nat → Nat) : Nat → Int32 := fun i => ar_i (f i)
def ar_u (f : Nat → Nat) (k x : Nat) : Nat → Nat := fun j => if j = k then x else f j
theorem ar_Nap (f : Nat → Nat) (i : Nat) : ar_N f i = nI (f i) := rfl
theorem ar_Oap (f : Nat → Nat) (i : Nat) : ar_O f i = ar_i (f i) := rfl
theorem ar_us (f : Nat → Nat) (k x : Nat) : ar_u f k x k = x := if_pos rfl
theorem ar_un {f : Nat → Nat} {k x j : Nat} (h : j ≠ k) : ar_u f k x j = f j := if_neg h
theorem ar_uN (f : Nat → Nat) (k x : Nat) : upd (ar_N f) k (nI x) = ar_N (ar_u f k x) := by
  funext j
  unfold upd ar_N ar_u
  by_cases h : j = k
  · rw [if_pos h, if_pos h]
  · rw [if_neg h, if_neg h]
theorem ar_uO (f : Nat → Nat) (k x : Nat) : upd (ar_O f) k (ar_i x) = ar_O (ar_u f k x) := by
  funext j
  unfold upd ar_O ar_u
  by_cases h : j = k
  · rw [if_pos h, if_pos h]
  · rw [if_neg h, if_neg h]
theorem ar_uOn (f : Nat → Nat) (k x : Nat) : upd (ar_O f) k (nI x) = ar_O (ar_u f k (x + 1)) := ar_uO f k (x + 1)
theorem ar_N0 : ar_N (fun _ => 0) = (fun _ => 0) := rfl
theorem ar_is (n : Nat) : ar_i (n + 1) = nI n := rfl
theorem ar_sub1 (n : Nat) : nI n - nI 1 = ar_i n := by
  cases n with
  | zero => rfl
  | succ n => exact nI_pred n
theorem ar_ad1 (n : Nat) : nI n + ar_i 0 = ar_i n := by
  cases n with
  | zero => rfl
  | succ n => exact pk_m1 n
theorem ar_idec (n : Nat) : ar_i (n + 1) + ar_i 0 = ar_i n := ar_ad1 n
theorem ar_inc (n : Nat) : ar_i n + nI 1 = nI n := by
  cases n with
  | zero => rfl
  | succ n => exact nI_1 n
theorem ar_iT {n : Nat} (h : n ≤ 2 ^ 31) : (ar_i n).toInt = (n : Int) - 1 := by
  cases n with
  | zero => rfl
  | succ n => rw [ar_is, nI_toInt (by omega)]; omega
theorem ar_ilt {a b : Nat} (ha : a ≤ 2 ^ 31) (hb : b < 2 ^ 31) : ar_i a < nI b ↔ a ≤ b := by
  rw [Int32.lt_iff_toInt_lt, ar_iT ha, nI_toInt hb]; omega
theorem ar_ile {a b : Nat} (ha : a ≤ 2 ^ 31) (hb : b < 2 ^ 31) : ar_i a ≤ nI b ↔ a ≤ b + 1 := by
  rw [Int32.le_iff_toInt_le, ar_iT ha, nI_toInt hb]; omega
theorem ar_lti {a b : Nat} (ha : a ≤ 2 ^ 31) (hb : b < 2 ^ 31) : nI b < ar_i a ↔ b + 1 < a := by
  rw [Int32.lt_iff_toInt_lt, ar_iT ha, nI_toInt hb]; omega
theorem ar_lei {a b : Nat} (ha : a ≤ 2 ^ 31) (hb : b < 2 ^ 31) : nI b ≤ ar_i a ↔ b < a := by
  rw [Int32.le_iff_toInt_le, ar_iT ha, nI_toInt hb]; omega
theorem ar_ieq {a b : Nat} (ha : a ≤ 2 ^ 31) (hb : b ≤ 2 ^ 31) : ar_i a = ar_i b ↔ a = b := by
  rw [← Int32.toInt_inj, ar_iT ha, ar_iT hb]; omega
theorem ar_ien {a b : Nat} (ha : a ≤ 2 ^ 31) (hb : b < 2 ^ 31) : ar_i a = nI b ↔ a = b + 1 := by
  rw [← Int32.toInt_inj, ar_iT ha, nI_toInt hb]; omega
theorem ar_nei {a b : Nat} (ha : a ≤ 2 ^ 31) (hb : b < 2 ^ 31) : nI b = ar_i a ↔ a = b + 1 := by
  rw [← Int32.toInt_inj, ar_iT ha, nI_toInt hb]; omega
theorem ar_in {n N : Nat} (hn : n < 2 ^ 31) : vp_in (nI n) N ↔ n < N := by
  rw [vp_in_iff, nI_toInt hn]; omega
theorem ar_lit1 : (-nI 1) = ar_i 0 := rfl
theorem ar_add (a b : Nat) : nI a + nI b = nI (a + b) := nI_add a b
theorem ar_mul (a b : Nat) : nI a * nI b = nI (a * b) := pk_mul a b
/-! small types -/
theorem ar_by : ∀ n, n < 128 → vp_nar .byte (nI n).toInt8.toInt32 = nI n := by
  intro n h
  rw [vp_nar_byte]
  revert n
  decide +kernel
theorem ar_byR (n : Nat) (h : n < 128) : vp_nar .byte (nI n) = nI n := by
  rw [vp_nar_byte]
  have := ar_by n h
  rw [vp_nar_byte] at this
  revert n
  decide +kernel
theorem ar_by1 : vp_nar .byte (ar_i 0) = ar_i 0 := by rw [vp_nar_byte]; decide
theorem ar_by2 : vp_nar .byte (ar_i 0).toInt8.toInt32 = ar_i 0 := by rw [vp_nar_byte]; decide
theorem ar_byZ {x : Int32} (h : -128 ≤ x.toInt) (h2 : x.toInt < 128) : vp_nar .byte x.toInt8.toInt32 = x := by
  rw [vp_nar_byte]
  obtain ⟨a, ha⟩ : ∃ a : Nat, a < 256 ∧ x = Int32.ofInt ((a : Int) - 128) := by
    refine ⟨(x.toInt + 128).toNat, by omega, ?_⟩
    rw [show (((x.toInt + 128).toNat : Nat) : Int) - 128 = x.toInt by omega, Int32.ofInt_toInt]
  obtain ⟨h3, rfl⟩ := ha
  clear h h2
  revert a
  decide +kernel
theorem ar_sh (n : Nat) (h : n < 32768) : vp_nar .short (nI n).toInt16.toInt32 = nI n := by
  rw [vp_nar_short]
  have e : (nI n).toInt16.toInt32 = nI n := by
    apply Int32.toInt_inj.mp
    rw [Int16.toInt_toInt32, Int32.toInt_toInt16, nI_toInt (by omega)]
    exact Int.bmod_eq_of_le (by omega) (by omega)
  rw [e, e]
theorem ar_ch (n : Nat) (h : n < 65536) : vp_nar .char ((nI n).toUInt32 % 65536).toInt32 = nI n := by
  rw [pk_vc, pk_char, pk_tn (by omega), Nat.mod_eq_of_lt h]
theorem ar_bo0 : vp_nar .boolean (nI 0) = nI 0 := rfl
theorem ar_bo1 : vp_nar .boolean (nI 1) = nI 1 := rfl
theorem ar_bo {n : Nat} (h : n ≤ 1) : vp_nar .boolean (nI n) = nI n := by
  have : n = 0 ∨ n = 1 := by omega
  rcases this with rfl | rfl <;> rfl
theorem ar_nb {n : Nat} (h : n ≤ 1) : (narrow .boolean (.int (nI n)) = .int (nI n)) ↔ True := by
  have : n = 0 ∨ n = 1 := by omega
  rcases this with rfl | rfl <;> exact ⟨fun _ => trivial, fun _ => rfl⟩
/-! bits -/
theorem ar_bt0 (m : Int32) {t : Nat} (h : t < 32) : (m >>> (nI t &&& nI 31)) &&& nI 1 = nI 0 ↔ bt m t = false := by
  have e : ∀ i, i < 32 → bt ((m >>> (nI t &&& 31)) &&& 1) i = (decide (i = 0) && bt m t) := by
    intro i hi
    rw [b_and, b_sshr t h m hi]
    have h1 : bt 1 i = decide (i = 0) := by
      revert i; decide +kernel
    rw [h1]
    by_cases z : i = 0
    · subst z; simp [h]
    · simp [z]
  constructor
  · intro z
    have := e 0 (by omega)
    rw [show (m >>> (nI t &&& 31)) &&& 1 = 0 from z, b_0] at this
    simpa using this.symm
  · intro z
    apply b_ext
    intro i hi
    rw [show (nI 0) = 0 from rfl, b_0]
    have := e i hi
    rw [z, Bool.and_false] at this
    exact this
theorem ar_bt1 (m : Int32) {t : Nat} (h : t < 32) : (m >>> (nI t &&& nI 31)) &&& nI 1 = nI 1 ↔ bt m t = true := by
  have e : (m >>> (nI t &&& nI 31)) &&& nI 1 = nI 0 ∨ (m >>> (nI t &&& nI 31)) &&& nI 1 = nI 1 := by
    obtain ⟨j, hj, e⟩ := pk_andE (m >>> (nI t &&& nI 31)) (m := nI 1) 1 rfl
    rw [e]
    have : j = 0 ∨ j = 1 := by omega
    rcases this with rfl | rfl
    · exact Or.inl rfl
    · exact Or.inr rfl
  have e0 := ar_bt0 m h
  rcases e with e | e
  · rw [e] at e0 ⊢
    constructor
    · intro z; exact absurd z (by decide)
    · intro z; rw [z] at e0; exact absurd (e0.mp rfl) (by decide)
  · rw [e] at e0 ⊢
    constructor
    · intro _; exact ts_nf (fun z => absurd (e0.mpr z) (by decide))
    · intro _; rfl
theorem ar_one : ∀ t, t < 32 → ∀ i, i < 32 → bt ((1 : Int32) <<< (nI t &&& 31)) i = decide (i = t) := by decide +kernel
theorem ar_btm (m : Int32) {t : Nat} (h : t < 32) : m &&& (nI 1 <<< (nI t &&& nI 31)) = nI 0 ↔ bt m t = false := by
  constructor
  · intro z
    have := b_and m ((1 : Int32) <<< (nI t &&& 31)) t
    rw [show m &&& ((1 : Int32) <<< (nI t &&& 31)) = 0 from z, b_0, ar_one t h t h] at this
    simpa using this.symm
  · intro z
    apply b_ext
    intro i hi
    show bt (m &&& ((1 : Int32) <<< (nI t &&& 31))) i = bt 0 i
    rw [b_and, b_0, ar_one t h i hi]
    by_cases e : i = t
    · subst e; rw [z]; rfl
    · simp [e]
theorem ar_bto (m : Int32) {t i : Nat} (h : t < 32) (hi : i < 32) : bt (m ||| (nI 1 <<< (nI t &&& nI 31))) i = (bt m i || decide (i = t)) := by
  rw [b_or]
  exact congrArg _ (ar_one t h i hi)
theorem ar_btx (m : Int32) {t i : Nat} (h : t < 32) (hi : i < 32) : bt (m &&& ((nI 1 <<< (nI t &&& nI 31)) ^^^ ar_i 0)) i = (bt m i && !decide (i = t)) := by
  rw [b_and, b_xor]
  have e1 := ar_one t h i hi
  have e2 := b_m1 i hi
  rw [show bt (nI 1 <<< (nI t &&& nI 31)) i = decide (i = t) from e1, show bt (ar_i 0) i = true from e2]
  cases bt m i <;> simp
theorem ar_oras (a b c : Int32) : (a ||| b) ||| c = a ||| (b ||| c) := Int32.or_assoc a b c
theorem ar_or0 (a : Int32) : a ||| nI 0 = a := by
  apply b_ext
  intro i _
  rw [b_or, show nI 0 = 0 from rfl, b_0, Bool.or_false]
theorem ar_msk : ∀ w, w ≤ 16 → (((1 : Int32) <<< (nI w &&& 31)) - 1).toBitVec.toNat = 2 ^ w - 1 := by
  intro w hw
  have : w < 17 := by omega
  clear hw
  revert w
  decide +kernel
theorem ar_cut (x : Int32) {w : Nat} (h : w ≤ 16) : x &&& ((nI 1 <<< (nI w &&& nI 31)) - nI 1) = nI (x.toBitVec.toNat % 2 ^ w) := pk_and x w (ar_msk w h)
theorem ar_cutN {v w : Nat} (hv : v < 2 ^ 32) (h : w ≤ 16) : nI v &&& ((nI 1 <<< (nI w &&& nI 31)) - nI 1) = nI (v % 2 ^ w) := pk_andN hv w (ar_msk w h)
theorem ar_p16 {w : Nat} (h : w ≤ 16) : 2 ^ w ≤ 65536 := by
  rw [show 65536 = 2 ^ 16 from rfl]
  exact Nat.pow_le_pow_right (by decide) h
theorem ar_cutS {a b w : Nat} (ha : a < 65536) (hb : b < 65536) (h : w ≤ 16) : (nI a - nI b) &&& ((nI 1 <<< (nI w &&& nI 31)) - nI 1) = nI ((a + 65536 - b) % 2 ^ w) := by
  rw [ar_cut _ h]
  apply congrArg nI
  have e : (nI a - nI b).toBitVec.toNat = (a + 4294967296 - b) % 4294967296 := by
    rw [Int32.toBitVec_sub, BitVec.toNat_sub, pk_tn (by omega), pk_tn (by omega)]
    omega
  rw [e]
  have d : 2 ^ w ∣ 65536 := by
    rw [show 65536 = 2 ^ 16 from rfl]
    exact Nat.pow_dvd_pow 2 h
  obtain ⟨c, hc⟩ := d
  have d2 : 4294967296 = 2 ^ w * (c * 65536) := by rw [← Nat.mul_assoc, ← hc]
  rw [show (a + 4294967296 - b) % 4294967296 % 2 ^ w = (a + 4294967296 - b) % 2 ^ w from Nat.mod_mod_of_dvd _ ⟨_, d2⟩]
  have d3 : a + 4294967296 - b = (a + 65536 - b) + 2 ^ w * (c * 65535) := by
    rw [← Nat.mul_assoc, ← hc]; omega
  rw [d3, Nat.add_mul_mod_self_left]
theorem ar_m15 {a : Nat} (h : a < 2 ^ 31) : nI a &&& nI 15 = nI (a % 16) := pk_andN (by omega) 4 rfl
theorem ar_r16 {a : Nat} (h : a < 2 ^ 31) : nI a - nI a / nI 16 * nI 16 = nI (a % 16) := pk_rem h (by decide) (by decide)
theorem ar_r64 {a : Nat} (h : a < 2 ^ 31) : nI a - nI a / nI 64 * nI 64 = nI (a % 64) := pk_rem h (by decide) (by decide)
theorem ar_m255 (x : Int32) : x &&& nI 255 = nI (x.toBitVec.toNat % 256) := pk_and x 8 rfl
theorem ar_x1 (a : Nat) : nI a ^^^ nI 1 = nI (a ^^^ 1) := nx_xor a 1
theorem ar_b1 {a t : Nat} (h : a < 65536) (ht : t < 32) : (nI a >>> (nI t &&& nI 31)) &&& nI 1 = nI (a / 2 ^ t % 2) := by
  show (nI a >>> (nI t &&& 31)) &&& 1 = _
  rw [pk_shrN (by omega) _ t (s_l t ht)]
  exact pk_andN (Nat.lt_of_le_of_lt (Nat.div_le_self _ _) (by omega)) 1 rfl
theorem li_0 : (0 : Int32) = nI 0 := rfl
theorem li_1 : (1 : Int32) = nI 1 := rfl
theorem li_2 : (2 : Int32) = nI 2 := rfl
theorem li_3 : (3 : Int32) = nI 3 := rfl
theorem li_4 : (4 : Int32) = nI 4 := rfl
theorem li_5 : (5 : Int32) = nI 5 := rfl
theorem li_6 : (6 : Int32) = nI 6 := rfl
theorem li_7 : (7 : Int32) = nI 7 := rfl
theorem li_8 : (8 : Int32) = nI 8 := rfl
theorem li_9 : (9 : Int32) = nI 9 := rfl
theorem li_10 : (10 : Int32) = nI 10 := rfl
theorem li_12 : (12 : Int32) = nI 12 := rfl
theorem li_15 : (15 : Int32) = nI 15 := rfl
theorem li_16 : (16 : Int32) = nI 16 := rfl
theorem li_17 : (17 : Int32) = nI 17 := rfl
theorem li_24 : (24 : Int32) = nI 24 := rfl
theorem li_31 : (31 : Int32) = nI 31 := rfl
theorem li_50 : (50 : Int32) = nI 50 := rfl
theorem li_63 : (63 : Int32) = nI 63 := rfl
theorem li_64 : (64 : Int32) = nI 64 := rfl
theorem li_100 : (100 : Int32) = nI 100 := rfl
theorem li_101 : (101 : Int32) = nI 101 := rfl
theorem li_255 : (255 : Int32) = nI 255 := rfl
theorem li_1000 : (1000 : Int32) = nI 1000 := rfl
theorem li_65535 : (65535 : Int32) = nI 65535 := rfl
theorem li_65536 : (65536 : Int32) = nI 65536 := rfl
end
section
/-! the relation, by naturals -/
/-- the bits that a constant takes -/
def re_bl (a : Nat) : Nat := Nat.log2 a + 1
/-- the width of a node by its operands' -/
def re_w (kd fa sb tc ww wd : Nat → Nat) (n : Nat) : Nat :=
  if kd n = 0 then re_bl (fa n) else if kd n = 1 then ww (fa n) else if kd n = 2 then 8
  else if kd n = 5 then (if wd (fa n) < wd (sb n) then wd (fa n) else wd (sb n))
  else if kd n = 7 ∨ kd n = 8 then 1
  else if kd n = 9 then (if wd (sb n) ≤ wd (tc n) then wd (tc n) else wd (sb n))
  else (if wd (fa n) ≤ wd (sb n) then wd (sb n) else wd (fa n))
/-- a machine that both sides hold -/
def re_M (st nd : Nat) (kd fa sb tc sg wd ww so cd ws : Nat → Nat) (ad : Nat) (gs xcd xws ycd yws ybs ycs : Nat → Int32) (xad yad : Int32) : Prop :=
  (1 ≤ st ∧ st ≤ 5 ∧ nd ≤ 24) ∧
  (∀ n, n < nd → kd n ≤ 9 ∧ (kd n = 0 → fa n < 65536) ∧ (kd n = 1 → fa n < 6) ∧ (2 ≤ kd n → fa n < n) ∧ (3 ≤ kd n → sb n < n ∧ ybs n = nI (sb n)) ∧ (kd n = 9 → tc n < n ∧ ycs n = nI (tc n)) ∧ sb n < 24 ∧ sg n ≤ 4 ∧ wd n = re_w kd fa sb tc ww wd n) ∧
  (∀ r, r < 6 → 1 ≤ ww r ∧ ww r ≤ 16 ∧ gs r ≤ 9) ∧
  (∀ t, t < 7 → so t ≤ nd ∧ (so t ≠ 0 → xcd t = ar_i (cd t) ∧ ycd t = ar_i (cd t) ∧ cd t ≤ nd ∧ xws t = nI (ws t) ∧ yws t = nI (ws t) ∧ ws t ≤ 4)) ∧
  (so 6 ≠ 0 → xad = nI ad ∧ yad = nI ad ∧ ad < nd)
/-- nothing is wrong with it -/
def re_F (st nd : Nat) (kd fa sb tc sg wd ww so cd ws : Nat → Nat) (ad : Nat) (gs : Nat → Int32) : Prop :=
  (∀ n, n < nd → sg n < st ∧ (2 ≤ kd n → sg (fa n) ≤ sg n) ∧ (3 ≤ kd n → sg (sb n) ≤ sg n) ∧ (kd n = 9 → sg (tc n) ≤ sg n)) ∧
  (∀ t, t < 7 → so t ≠ 0 → ws t < st ∧ sg (so t - 1) ≤ ws t ∧ (cd t ≠ 0 → sg (cd t - 1) ≤ ws t) ∧ (t = 6 → sg ad ≤ ws t) ∧ wd (so t - 1) ≤ (if t = 6 then 8 else ww t)) ∧
  (∀ r, r < 6 → gs r ≠ 9 → so r ≠ 0 ∧ (∃ n, n < nd ∧ kd n = 1 ∧ fa n = r) ∧ ∀ n, n < nd → kd n = 1 → fa n = r → sg n = 0)
/-- what is reckoned: a stage before, or this one and done -/
abbrev re_av (a s d : Nat) : Prop := a < s ∨ (a = s ∧ d = 1)
/-- who is where -/
def re_O (st wk nx c1 : Nat) (nm nb sy : Nat → Nat) : Prop :=
  (∀ x, x < wk → sy x < st) ∧ (∀ x, x + 1 < wk → sy (x + 1) < sy x) ∧
  (∀ x, x < wk → nm (sy x) = nb x + 1 ∧ nb x = c1 + x) ∧
  (∀ s, (s < 5 → (∀ x, x < wk → sy x ≠ s) → nm s = 0) ∧ (5 ≤ s → nm s = 1)) ∧ nx = c1 + wk
/-- what is reckoned of each -/
def re_V (nd wk : Nat) (kd fa sg wd sy : Nat → Nat) (gs xgu ygu : Nat → Int32) (xdn dn xsn vl wo gv : Nat → Nat) : Prop :=
  (∀ x, x < wk → xdn (sy x) = dn x ∧ dn x ≤ 1 ∧ xgu (sy x) = ygu x ∧ bt (ygu x) 6 = false) ∧
  (∀ x, x < wk → ∀ n, n < nd → re_av (sg n) (sy x) (dn x) → xsn (24 * sy x + n) = vl (24 * x + n) ∧ vl (24 * x + n) < 2 ^ wd n) ∧
  (∀ x, x < wk → ∀ n, n < 24 → wo (24 * x + n) ≤ 1 ∧ (n < nd → (wo (24 * x + n) = 1 ↔ re_av (sg n) (sy x) (dn x)))) ∧
  (∀ x, x < wk → ∀ r, r < 6 → bt (ygu x) r = true → gs r ≠ 9 ∧ (0 < sy x ∨ dn x = 1) ∧ ∀ n, n < nd → kd n = 1 → fa n = r → vl (24 * x + n) = gv (6 * x + r))
/-- what is prepared: component and reference alike -/
def re_Q (wk : Nat) (ww sy : Nat → Nat) (xon : Nat → Int32) (xpr xcl pv pc pp yo : Nat → Nat) : Prop :=
  (∀ x, x < wk → ∀ t, t < 7 → pp (7 * x + t) ≤ 1 ∧ yo (7 * x + t) ≤ 1 ∧ (bt (xon (sy x)) t = true ↔ (pp (7 * x + t) = 1 ∧ yo (7 * x + t) = 1)) ∧ (pp (7 * x + t) = 1 → xpr (7 * sy x + t) = pv (7 * x + t) ∧ pv (7 * x + t) < 2 ^ (if t = 6 then 8 else ww t))) ∧
  (∀ x, x < wk → pp (7 * x + 6) = 1 → xcl (sy x) = pc x ∧ pc x < 16) ∧ (∀ i, xcl i < 16 ∧ yo i ≤ 1)
/-- what is prepared is told by the stage -/
def re_P (wk : Nat) (so ws sy dn pp : Nat → Nat) : Prop :=
  ∀ x, x < wk → ∀ t, t < 7 → (pp (7 * x + t) = 1 ↔ (so t ≠ 0 ∧ re_av (ws t) (sy x) (dn x)))
/-- what is committed, and the latest commits -/
def re_C (ww rg ce ct wh wt wi : Nat → Nat) (xtr : Nat → Int64) : Prop :=
  (∀ r, r < 6 → rg r < 2 ^ ww r) ∧ (∀ k, k < 16 → ce k < 256) ∧ ct 7 ≤ 7 * ct 1 ∧
  (∀ i, xtr i = lN (wi i * 4294967296 + wh i * 65536 + wt i) ∧ wh i < 65536 ∧ wt i < 65536 ∧ wi i < 536870912)
theorem re_bl1 (a : Nat) : 1 ≤ re_bl a := by unfold re_bl; omega
theorem re_blp (a : Nat) : a < 2 ^ re_bl a := by
  unfold re_bl
  exact Nat.lt_log2_self
theorem re_blm {a w : Nat} (h1 : 1 ≤ w) (h : a < 2 ^ w) : re_bl a ≤ w := by
  unfold re_bl
  by_cases z : a = 0
  · subst z; simpa using h1
  · have := (Nat.log2_lt z).mpr h
    omega
theorem re_bl16 {a : Nat} (h : a < 65536) : re_bl a ≤ 16 := re_blm (by decide) h
/-- a machine's widths are 1 to 16 -/
theorem re_w16 {st nd : Nat} {kd fa sb tc sg wd ww so cd ws : Nat → Nat} {ad : Nat} {gs xcd xws ycd yws ybs ycs : Nat → Int32} {xad yad : Int32} (hM : re_M st nd kd fa sb tc sg wd ww so cd ws ad gs xcd xws ycd yws ybs ycs xad yad) : ∀ n, n < nd → 1 ≤ wd n ∧ wd n ≤ 16 := by
  intro n
  induction n using Nat.strongRecOn with
  | ind n ih =>
    intro hn
    obtain ⟨-, hN, hW, -⟩ := hM
    obtain ⟨hk, h0, h1, h2, h3, h9, -, -, he⟩ := hN n hn
    rw [he]
    unfold re_w
    by_cases k0 : kd n = 0
    · rw [if_pos k0]; exact ⟨re_bl1 _, re_bl16 (h0 k0)⟩
    rw [if_neg k0]
    by_cases k1 : kd n = 1
    · rw [if_pos k1]; exact ⟨(hW _ (h1 k1)).1, (hW _ (h1 k1)).2.1⟩
    rw [if_neg k1]
    by_cases k2 : kd n = 2
    · rw [if_pos k2]; omega
    rw [if_neg k2]
    have ha := ih (fa n) (h2 (by omega)) (by have := h2 (by omega); omega)
    have hb := ih (sb n) (h3 (by omega)).1 (by have := (h3 (by omega)).1; omega)
    by_cases k5 : kd n = 5
    · rw [if_pos k5]
      by_cases z : wd (fa n) < wd (sb n)
      · rw [if_pos z]; exact ha
      · rw [if_neg z]; exact hb
    rw [if_neg k5]
    by_cases k7 : kd n = 7 ∨ kd n = 8
    · rw [if_pos k7]; omega
    rw [if_neg k7]
    by_cases k9 : kd n = 9
    · rw [if_pos k9]
      have hc := ih (tc n) (h9 k9).1 (by have := (h9 k9).1; omega)
      by_cases z : wd (sb n) ≤ wd (tc n)
      · rw [if_pos z]; exact hc
      · rw [if_neg z]; exact hb
    rw [if_neg k9]
    by_cases z : wd (fa n) ≤ wd (sb n)
    · rw [if_pos z]; exact hb
    · rw [if_neg z]; exact ha
end
section
/-! the component's small methods -/
def re_op (k : Nat) : Nat := if k = 9 then 3 else if k ≤ 2 then (if k = 2 then 1 else 0) else 2
def re_nm (fa sb tc : Nat → Nat) (n j : Nat) : Nat := if j = 0 then fa n else if j = 1 then sb n else tc n
def ar_cnt (nm : Nat → Nat) (j : Nat) : Nat → Nat
  | 0 => 0
  | d + 1 => (if nm j = 0 then 0 else 1) + ar_cnt nm (j + 1) d
def ar_nz : Nat → Nat := fun i => if i < 5 then 0 else 1
def ar_clr (nm : Nat → Nat) (j d : Nat) : Nat → Nat := fun i => if j ≤ i ∧ i < j + d then 0 else nm i
theorem ar_clr0 (nm : Nat → Nat) (j : Nat) : ar_clr nm j 0 = nm := by
  funext i
  unfold ar_clr
  rw [if_neg (by omega)]
theorem ar_clrS (nm : Nat → Nat) (j d : Nat) : ar_clr (ar_u nm j 0) (j + 1) d = ar_clr nm j (d + 1) := by
  funext i
  unfold ar_clr ar_u
  by_cases h : i = j
  · rw [if_neg (by omega), if_pos h, if_pos (by omega)]
  · by_cases h2 : j + 1 ≤ i ∧ i < j + 1 + d
    · rw [if_pos h2, if_pos (by omega)]
    · rw [if_neg h2, if_neg h, if_neg (by omega)]
theorem ar_cntU (nm : Nat → Nat) (i v : Nat) : ∀ d j, i < j → ar_cnt (ar_u nm i v) j d = ar_cnt nm j d := by
  intro d
  induction d with
  | zero => intro j _; rfl
  | succ d ih =>
    intro j h
    show (if ar_u nm i v j = 0 then 0 else 1) + _ = (if nm j = 0 then 0 else 1) + _
    rw [ar_un (by omega), ih (j + 1) (by omega)]
section
variable {st nd bu nx ad : Nat} {xad xga xto : Int32} {kd sb tc sg wd fa ww so rg ce nm xdn xsn xpr xcl ct cd ws : Nat → Nat} {gs xcd xws xon xgu xlf xrt xlv : Nat → Int32} {xtr : Nat → Int64}
variable {post : Int32 → Prop} {poss : Int32 → SX → Prop} {posu : SX → Prop}
theorem xq_inT {p lo hi : Int32} (h1 : ¬ p < lo) (h2 : ¬ hi < p) (hp : post 1) : wpX_in post p lo hi := br_f h1 (br_f h2 hp)
theorem xq_inF {p lo hi : Int32} (h : p < lo ∨ hi < p) (hp : post 0) : wpX_in post p lo hi := by
  by_cases h1 : p < lo
  · exact br_t h1 hp
  · exact br_f h1 (br_t (h.resolve_left h1) hp)
theorem xq_in {p a b : Nat} (hp : p < 2 ^ 31) (ha : a < 2 ^ 31) (hb : b < 2 ^ 31) (h1 : a ≤ p) (h2 : p ≤ b) (h : post 1) : wpX_in post (nI p) (nI a) (nI b) :=
  xq_inT (nI_nlt h1 hp) (nI_nlt h2 hb) h
theorem xq_isRegT {r : Nat} (h : r < 6) (hp : post 1) : wpX_isRegister post (nI r) := xq_in (a := 0) (b := 5) (by omega) (by omega) (by omega) (by omega) (by omega) ⟨rfl, hp⟩
theorem xq_isRegF {p : Int32} (h : p < 0 ∨ nI 6 ≤ p) (hp : post 0) : wpX_isRegister post p := by
  refine xq_inF ?_ ⟨rfl, hp⟩
  rcases h with h | h
  · exact Or.inl h
  · refine Or.inr ?_
    rw [Int32.le_iff_toInt_le, nI_toInt (by omega)] at h
    rw [Int32.lt_iff_toInt_lt, show (5 : Int32).toInt = 5 from rfl]
    omega
theorem xq_isNodeT {n : Nat} (hd : nd ≤ 24) (h : n < nd) (hp : post 1) : wpX_isNode post (nI st, nI nd, nI bu, xad, nI nx, xga, xto, ar_N kd, ar_N sb, ar_N tc, ar_N sg, ar_N wd, ar_N fa, ar_N ww, gs, ar_O so, xcd, xws, ar_N rg, ar_N ce, ar_O nm, xon, xgu, ar_N xdn, ar_N xsn, ar_N xpr, ar_N xcl, xtr, ar_N ct, xlf, xrt, xlv) (nI n) := by
  refine xq_inT (post := fun r_1 => (narrow .boolean (.int r_1) = .int r_1 ∧ (post r_1))) (nI_pos (by omega)) ?_ ⟨rfl, hp⟩
  rw [show (1 : Int32) = nI 1 from rfl, ar_sub1, ar_ilt (by omega) (by omega)]
  omega
theorem xq_isNodeF {p : Int32} (hd : nd ≤ 24) (h : p < 0 ∨ nI nd ≤ p) (hp : post 0) : wpX_isNode post (nI st, nI nd, nI bu, xad, nI nx, xga, xto, ar_N kd, ar_N sb, ar_N tc, ar_N sg, ar_N wd, ar_N fa, ar_N ww, gs, ar_O so, xcd, xws, ar_N rg, ar_N ce, ar_O nm, xon, xgu, ar_N xdn, ar_N xsn, ar_N xpr, ar_N xcl, xtr, ar_N ct, xlf, xrt, xlv) p := by
  refine xq_inF (post := fun r_1 => (narrow .boolean (.int r_1) = .int r_1 ∧ (post r_1))) ?_ ⟨rfl, hp⟩
  rcases h with h | h
  · exact Or.inl h
  · refine Or.inr ?_
    rw [show (1 : Int32) = nI 1 from rfl, ar_sub1]
    rw [Int32.le_iff_toInt_le, nI_toInt (by omega)] at h
    rw [Int32.lt_iff_toInt_lt, ar_iT (by omega)]
    omega
theorem xq_empty5 (h : Nat) (hh : h ≤ 5) : ∀ (d j c n : Nat) (nm : Nat → Nat), j + d = h → d < n → (∀ i, nm i ≤ 2 ^ 31) → poss (nI (c + ar_cnt nm j d)) (nI st, nI nd, nI bu, xad, nI nx, xga, xto, ar_N kd, ar_N sb, ar_N tc, ar_N sg, ar_N wd, ar_N fa, ar_N ww, gs, ar_O so, xcd, xws, ar_N rg, ar_N ce, ar_O (ar_clr nm j d), xon, xgu, ar_N xdn, ar_N xsn, ar_N xpr, ar_N xcl, xtr, ar_N ct, xlf, xrt, xlv) → wX_empty_5 poss (ar_i h) (nI st) (nI nd) (nI bu) xad (nI nx) xga xto n (nI c) (nI j) (ar_N kd) (ar_N sb) (ar_N tc) (ar_N sg) (ar_N wd) (ar_N fa) (ar_N ww) gs (ar_O so) xcd xws (ar_N rg) (ar_N ce) (ar_O nm) xon xgu (ar_N xdn) (ar_N xsn) (ar_N xpr) (ar_N xcl) xtr (ar_N ct) xlf xrt xlv := by
  intro d
  induction d with
  | zero =>
    intro j c n nm hj hn hb hp
    cases n with
    | zero => omega
    | succ n =>
      simp (disch := omega) only [wX_empty_5, forall_eq, ar_Nap, ar_Oap, nI_clamp, nI_leI, nI_ltI, nI_eq, ar_add, ar_mul, ar_in, ar_sub1, ar_ad1, ar_idec, ar_is, ar_ilt, ar_ile, ar_lti, ar_lei, ar_ieq, ar_ien, ar_nei, li_0, li_1, li_2, li_3, li_4, li_5, li_6, li_7, li_8, li_9, li_10, li_12, li_15, li_16, li_17, li_24, li_31, li_50, li_63, li_64, li_100, li_101, li_255, li_1000, li_65535, li_65536, ar_lit1]
      rw [ar_clr0] at hp
      exact ⟨fun _ => hp, fun z => absurd (by omega) z⟩
  | succ d ih =>
    intro j c n nm hj hn hb hp
    cases n with
    | zero => omega
    | succ n =>
      have hbj := hb j
      simp (disch := omega) only [wX_empty_5, forall_eq, ar_Nap, ar_Oap, nI_clamp, nI_leI, nI_ltI, nI_eq, ar_add, ar_mul, ar_in, ar_sub1, ar_ad1, ar_idec, ar_is, ar_ilt, ar_ile, ar_lti, ar_lei, ar_ieq, ar_ien, ar_nei, li_0, li_1, li_2, li_3, li_4, li_5, li_6, li_7, li_8, li_9, li_10, li_12, li_15, li_16, li_17, li_24, li_31, li_50, li_63, li_64, li_100, li_101, li_255, li_1000, li_65535, li_65536, ar_lit1]
      refine ⟨fun z => absurd z (by omega), fun _ => ⟨by omega, fun z => ⟨by omega, ?_⟩, fun z => ⟨by omega, ?_⟩⟩⟩
      · rw [ar_uO]
        refine ih (j + 1) c n _ (by omega) (by omega) (fun i => ?_) ?_
        · unfold ar_u
          by_cases q : i = j
          · rw [if_pos q]; omega
          · rw [if_neg q]; exact hb i
        · rw [ar_clrS, ar_cntU _ _ _ _ _ (by omega)]
          have e : ar_cnt nm j (d + 1) = 0 + ar_cnt nm (j + 1) d := by
            show (if nm j = 0 then 0 else 1) + _ = _
            rw [if_pos (by omega)]
          rw [e, Nat.zero_add] at hp
          exact hp
      · rw [ar_uO]
        refine ih (j + 1) (c + 1) n _ (by omega) (by omega) (fun i => ?_) ?_
        · unfold ar_u
          by_cases q : i = j
          · rw [if_pos q]; omega
          · rw [if_neg q]; exact hb i
        · rw [ar_clrS, ar_cntU _ _ _ _ _ (by omega)]
          have e : ar_cnt nm j (d + 1) = 1 + ar_cnt nm (j + 1) d := by
            show (if nm j = 0 then 0 else 1) + _ = _
            rw [if_neg (by omega)]
          rw [e, ← Nat.add_assoc] at hp
          exact hp
theorem xq_empty {h : Nat} (hh : h ≤ 5) (hb : ∀ i, nm i ≤ 2 ^ 31) (hp : poss (nI (ar_cnt nm 0 h)) (nI st, nI nd, nI bu, xad, nI nx, xga, xto, ar_N kd, ar_N sb, ar_N tc, ar_N sg, ar_N wd, ar_N fa, ar_N ww, gs, ar_O so, xcd, xws, ar_N rg, ar_N ce, ar_O (ar_clr nm 0 h), xon, xgu, ar_N xdn, ar_N xsn, ar_N xpr, ar_N xcl, xtr, ar_N ct, xlf, xrt, xlv)) : wpX_empty poss (nI st, nI nd, nI bu, xad, nI nx, xga, xto, ar_N kd, ar_N sb, ar_N tc, ar_N sg, ar_N wd, ar_N fa, ar_N ww, gs, ar_O so, xcd, xws, ar_N rg, ar_N ce, ar_O nm, xon, xgu, ar_N xdn, ar_N xsn, ar_N xpr, ar_N xcl, xtr, ar_N ct, xlf, xrt, xlv) 0 (ar_i h) :=
  ⟨h + 1, xq_empty5 h hh h 0 0 (h + 1) nm (by omega) (by omega) hb (by rw [Nat.zero_add]; exact hp)⟩
theorem xq_change (hs : st ≤ 5) (hb : ∀ i, nm i ≤ 2 ^ 31) (hz : ∀ i, st ≤ i → i < 5 → nm i = 0) (h5 : ∀ i, 5 ≤ i → nm i = 1) (hp : posu (nI st, nI nd, nI 0, xad, nI (ct 1), xga, xto, ar_N kd, ar_N sb, ar_N tc, ar_N sg, ar_N wd, ar_N fa, ar_N ww, gs, ar_O so, xcd, xws, ar_N rg, ar_N ce, ar_O ar_nz, xon, xgu, ar_N xdn, ar_N xsn, ar_N xpr, ar_N xcl, xtr, ar_N ct, xlf, xrt, xlv)) : wpX_change posu (nI st, nI nd, nI bu, xad, nI nx, xga, xto, ar_N kd, ar_N sb, ar_N tc, ar_N sg, ar_N wd, ar_N fa, ar_N ww, gs, ar_O so, xcd, xws, ar_N rg, ar_N ce, ar_O nm, xon, xgu, ar_N xdn, ar_N xsn, ar_N xpr, ar_N xcl, xtr, ar_N ct, xlf, xrt, xlv) := by
  have e : ar_clr nm 0 st = ar_nz := by
    funext i
    unfold ar_clr ar_nz
    by_cases q : i < st
    · rw [if_pos (by omega), if_pos (by omega)]
    · by_cases q5 : i < 5
      · rw [if_neg (by omega), if_pos q5]; exact hz i (by omega) q5
      · rw [if_neg (by omega), if_neg q5]; exact h5 i (by omega)
  unfold wpX_change
  dsimp only
  rw [show (1 : Int32) = nI 1 from rfl, ar_sub1]
  refine xq_empty (bu := 0) hs hb ?_
  rw [e]
  exact fun _ h => by rw [h]; exact hp
theorem xq_greater {a b : Nat} (ha : a < 2 ^ 31) (hb : b < 2 ^ 31) (hp : post (nI (if a ≤ b then b else a))) : wpX_greater post (nI a) (nI b) := by
  by_cases h : a ≤ b
  · rw [if_pos h] at hp
    exact br_t (nI_le h hb) hp
  · rw [if_neg h] at hp
    exact br_f (nI_ge (by omega) ha) hp
theorem xq_operands {k : Nat} (hk : k < 2 ^ 31) (hp : post (nI (re_op k))) : wpX_operands post (nI k) := by
  unfold re_op at hp
  simp (disch := omega) only [wpX_operands, forall_eq, ar_Nap, ar_Oap, nI_clamp, nI_leI, nI_ltI, nI_eq, ar_add, ar_mul, ar_in, ar_sub1, ar_ad1, ar_idec, ar_is, ar_ilt, ar_ile, ar_lti, ar_lei, ar_ieq, ar_ien, ar_nei, li_0, li_1, li_2, li_3, li_4, li_5, li_6, li_7, li_8, li_9, li_10, li_12, li_15, li_16, li_17, li_24, li_31, li_50, li_63, li_64, li_100, li_101, li_255, li_1000, li_65535, li_65536, ar_lit1]
  refine ⟨fun h => ?_, fun h => ⟨fun h2 => ⟨fun h3 => ?_, fun h3 => ?_⟩, fun h2 => ?_⟩⟩
  · rw [if_pos h] at hp; exact hp
  · rw [if_neg h, if_pos h2, if_pos h3] at hp; exact hp
  · rw [if_neg h, if_pos h2, if_neg h3] at hp; exact hp
  · rw [if_neg h, if_neg h2] at hp; exact hp
theorem xq_named {n j : Nat} (hn : n < 24) (hj : j < 2 ^ 31) (hp : post (nI (re_nm fa sb tc n j))) : wpX_named post (nI st, nI nd, nI bu, xad, nI nx, xga, xto, ar_N kd, ar_N sb, ar_N tc, ar_N sg, ar_N wd, ar_N fa, ar_N ww, gs, ar_O so, xcd, xws, ar_N rg, ar_N ce, ar_O nm, xon, xgu, ar_N xdn, ar_N xsn, ar_N xpr, ar_N xcl, xtr, ar_N ct, xlf, xrt, xlv) (nI n) (nI j) := by
  unfold re_nm at hp
  simp (disch := omega) only [wpX_named, forall_eq, ar_Nap, ar_Oap, nI_clamp, nI_leI, nI_ltI, nI_eq, ar_add, ar_mul, ar_in, ar_sub1, ar_ad1, ar_idec, ar_is, ar_ilt, ar_ile, ar_lti, ar_lei, ar_ieq, ar_ien, ar_nei, li_0, li_1, li_2, li_3, li_4, li_5, li_6, li_7, li_8, li_9, li_10, li_12, li_15, li_16, li_17, li_24, li_31, li_50, li_63, li_64, li_100, li_101, li_255, li_1000, li_65535, li_65536, ar_lit1]
  refine ⟨fun h => ⟨hn, ?_⟩, fun h => ⟨fun h2 => ⟨hn, ?_⟩, fun h2 => ⟨hn, ?_⟩⟩⟩
  · rw [if_pos h] at hp; exact hp
  · rw [if_neg h, if_pos h2] at hp; exact hp
  · rw [if_neg h, if_neg h2] at hp; exact hp
theorem xq_w79 {a : Nat} (ha : a < 65536) (hp : post (nI (re_bl a))) : ∀ (d w n : Nat), w + d = re_bl a → 1 ≤ w → d < n → wX_widthOf_79 post (nI a) (nI st) (nI nd) (nI bu) xad (nI nx) xga xto (ar_N kd) (ar_N sb) (ar_N tc) (ar_N sg) (ar_N wd) (ar_N fa) (ar_N ww) gs (ar_O so) xcd xws (ar_N rg) (ar_N ce) (ar_O nm) xon xgu (ar_N xdn) (ar_N xsn) (ar_N xpr) (ar_N xcl) xtr (ar_N ct) xlf xrt xlv n (nI w) := by
  have h16 := re_bl16 ha
  intro d
  induction d with
  | zero =>
    intro w n hw h1 hn
    cases n with
    | zero => omega
    | succ n =>
      have hz : a / 2 ^ w = 0 := Nat.div_eq_of_lt (by rw [show w = re_bl a by omega]; exact re_blp a)
      have e := pk_ushrN (n := a) (by omega) (nI w) w (s_u w (by omega))
      rw [hz] at e
      rw [wX_widthOf_79]
      refine br_t (by rw [e]; exact (by decide)) ?_
      rw [show w = re_bl a by omega]
      exact hp
  | succ d ih =>
    intro w n hw h1 hn
    cases n with
    | zero => omega
    | succ n =>
      have hz : ¬ a < 2 ^ w := fun z => by have := re_blm h1 z; omega
      have hz2 : 0 < a / 2 ^ w := Nat.div_pos (by omega) (Nat.two_pow_pos w)
      have hz3 : a / 2 ^ w < 2 ^ 31 := Nat.lt_of_le_of_lt (Nat.div_le_self _ _) (by omega)
      have e := pk_ushrN (n := a) (by omega) (nI w) w (s_u w (by omega))
      rw [wX_widthOf_79]
      refine br_f (by rw [e]; exact nI_nle hz2 hz3) ?_
      intro y ey
      rw [ey, nI_1]
      exact ih (w + 1) n (by omega) (by omega) (by omega)
theorem xq_widthOf {n : Nat} (hn : n < 24) (hk : kd n ≤ 9) (h0 : kd n = 0 → fa n < 65536) (h1 : kd n = 1 → fa n < 6) (h3 : 3 ≤ kd n → fa n < 24) (hb : sb n < 24) (h9 : kd n = 9 → tc n < 24) (hwa : 3 ≤ kd n → wd (fa n) < 2 ^ 31) (hwb : 3 ≤ kd n → wd (sb n) < 2 ^ 31) (hwc : kd n = 9 → wd (tc n) < 2 ^ 31) (hp : post (nI (re_w kd fa sb tc ww wd n))) : wpX_widthOf post (nI st, nI nd, nI bu, xad, nI nx, xga, xto, ar_N kd, ar_N sb, ar_N tc, ar_N sg, ar_N wd, ar_N fa, ar_N ww, gs, ar_O so, xcd, xws, ar_N rg, ar_N ce, ar_O nm, xon, xgu, ar_N xdn, ar_N xsn, ar_N xpr, ar_N xcl, xtr, ar_N ct, xlf, xrt, xlv) (nI n) := by
  have ne : ∀ {a : Nat}, a < 2 ^ 31 → ¬ kd n = a → ¬ nI (kd n) = nI a := fun ha h => by rw [nI_eq (by omega) ha]; exact h
  unfold wpX_widthOf
  simp (disch := omega) only [nI_clamp, ar_Nap, ar_in, li_0, li_1, li_2, li_3, li_4, li_5, li_6, li_7, li_8, li_9, li_10, li_12, li_15, li_16, li_17, li_24, li_31, li_50, li_63, li_64, li_100, li_101, li_255, li_1000, li_65535, li_65536, ar_lit1]
  refine ⟨hn, fun a ea => ⟨hn, fun b eb => ⟨hn, fun k ek => ?_⟩⟩⟩
  rw [ea, eb, ek]
  have big : 3 ≤ kd n → ¬ kd n = 5 → ¬ (kd n = 7 ∨ kd n = 8) → ¬ kd n = 9 → wX_widthOf_159 post (nI (fa n)) (nI (sb n)) (nI st) (nI nd) (nI bu) xad (nI nx) xga xto (ar_N kd) (ar_N sb) (ar_N tc) (ar_N sg) (ar_N wd) (ar_N fa) (ar_N ww) gs (ar_O so) xcd xws (ar_N rg) (ar_N ce) (ar_O nm) xon xgu (ar_N xdn) (ar_N xsn) (ar_N xpr) (ar_N xcl) xtr (ar_N ct) xlf xrt xlv := by
    intro q3 q5 q7 q9
    unfold re_w at hp
    rw [if_neg (by omega), if_neg (by omega), if_neg (by omega), if_neg q5, if_neg q7, if_neg q9] at hp
    have wa := hwa q3
    have wb := hwb q3
    have a24 := h3 q3
    unfold wX_widthOf_159
    refine ⟨vp_in_nI a24 (by omega), vp_in_nI hb (by omega), ?_⟩
    rw [nI_clamp (by omega), nI_clamp (by omega)]
    exact xq_greater wa wb hp
  refine br_f (nI_pos (by omega)) (br_f (nI_nlt (b := kd n) (by omega) (by omega)) ?_)
  refine pk_eq (kd n) 0 (fun k0 => ?_) (fun k0 => ?_)
  · unfold re_w at hp
    rw [if_pos k0] at hp
    exact ⟨17, xq_w79 (h0 k0) hp (re_bl (fa n) - 1) 1 17 (by have := re_bl1 (fa n); omega) (by omega) (by have := re_bl16 (h0 k0); omega)⟩
  refine pk_eq (kd n) 1 (fun k1 => ?_) (fun k1 => ?_)
  · have f6 := h1 k1
    unfold re_w at hp
    rw [if_neg k0, if_pos k1] at hp
    refine ⟨vp_in_nI f6 (by omega), ?_⟩
    rw [nI_clamp (by omega)]
    exact hp
  refine pk_eq (kd n) 2 (fun k2 => ?_) (fun k2 => ?_)
  · unfold re_w at hp
    rw [if_neg k0, if_neg k1, if_pos k2] at hp
    exact hp
  have a24 := h3 (by omega)
  have wa := hwa (by omega)
  have wb := hwb (by omega)
  refine pk_eq (kd n) 3 (fun k3 => big (by omega) (by omega) (by omega) (by omega)) (fun k3 => ?_)
  refine pk_eq (kd n) 4 (fun k4 => big (by omega) (by omega) (by omega) (by omega)) (fun k4 => ?_)
  refine pk_eq (kd n) 5 (fun k5 => ?_) (fun k5 => ?_)
  · unfold re_w at hp
    rw [if_neg k0, if_neg k1, if_neg k2, if_pos k5] at hp
    refine ⟨vp_in_nI a24 (by omega), vp_in_nI hb (by omega), ?_⟩
    rw [nI_clamp (by omega), nI_clamp (by omega)]
    refine pk_le (wd (sb n)) (wd (fa n)) (fun q => ⟨vp_in_nI hb (by omega), ?_⟩) (fun q => ⟨vp_in_nI a24 (by omega), ?_⟩)
    · rw [if_neg (by omega)] at hp; exact hp
    · rw [if_pos q] at hp; exact hp
  refine pk_eq (kd n) 6 (fun k6 => big (by omega) (by omega) (by omega) (by omega)) (fun k6 => ?_)
  unfold re_w at hp
  rw [if_neg k0, if_neg k1, if_neg k2, if_neg k5] at hp
  refine pk_eq (kd n) 7 (fun k7 => ?_) (fun k7 => ?_)
  · rw [if_pos (Or.inl k7)] at hp; exact hp
  refine pk_eq (kd n) 8 (fun k8 => ?_) (fun k8 => ?_)
  · rw [if_pos (Or.inr k8)] at hp; exact hp
  have k9 : kd n = 9 := by omega
  have c24 := h9 k9
  rw [if_neg (by omega), if_pos k9] at hp
  refine br_t (by rw [k9]) ⟨vp_in_nI hb (by omega), hn, vp_in_nI c24 (by omega), ?_⟩
  rw [nI_clamp (by omega), nI_clamp (by omega)]
  exact xq_greater wb (hwc k9) hp
end
end
section
/-! the reference's small methods -/
section
variable {st nd bu nx wk kc1 kc0 kc2 kc3 kc4 kc5 kc6 kc7 gi ad : Nat} {xad xga xto yad yts yga : Int32} {kd sb tc sg wd fa ww so rg ce nm xdn xsn xpr xcl ct nb sy vl pv pc gv dn wo pp yo wh wt wi tr tg cd ws : Nat → Nat} {gs xcd xws xon xgu xlf xrt xlv ybs ycs ywd ycd yws ygu yone ytwo ylv : Nat → Int32} {xtr : Nat → Int64}
variable {post : Int32 → Prop} {poss : Int32 → SY → Prop} {posu : SY → Prop}
theorem yq_inT {p hi : Int32} (h1 : ¬ p < 0) (h2 : ¬ hi ≤ p) (hp : post 1) : wpY_in post p hi := br_f h1 (br_f h2 hp)
theorem yq_inF {p hi : Int32} (h : p < 0 ∨ hi ≤ p) (hp : post 0) : wpY_in post p hi := by
  by_cases h1 : p < 0
  · exact br_t h1 hp
  · exact br_f h1 (br_t (h.resolve_left h1) hp)
theorem yq_in {p b : Nat} (hb : b < 2 ^ 31) (h2 : p < b) (h : post 1) : wpY_in post (nI p) (nI b) :=
  yq_inT (nI_pos (by omega)) (nI_ge h2 hb) h
theorem yq_operands {k : Nat} (hk : k < 2 ^ 31) (hp : post (nI (re_op k))) : wpY_operands post (nI k) := by
  unfold re_op at hp
  simp (disch := omega) only [wpY_operands, forall_eq, ar_Nap, ar_Oap, nI_clamp, nI_leI, nI_ltI, nI_eq, ar_add, ar_mul, ar_in, ar_sub1, ar_ad1, ar_idec, ar_is, ar_ilt, ar_ile, ar_lti, ar_lei, ar_ieq, ar_ien, ar_nei, li_0, li_1, li_2, li_3, li_4, li_5, li_6, li_7, li_8, li_9, li_10, li_12, li_15, li_16, li_17, li_24, li_31, li_50, li_63, li_64, li_100, li_101, li_255, li_1000, li_65535, li_65536, ar_lit1]
  refine ⟨fun h => ⟨fun h2 => ?_, fun h2 => ⟨fun h3 => ?_, fun h3 => ?_⟩⟩, fun h => ?_⟩
  · rw [if_neg (by omega), if_pos (by omega), if_pos h2] at hp; exact hp
  · rw [if_pos h3] at hp; exact hp
  · rw [if_neg h3, if_neg (by omega)] at hp; exact hp
  · rw [if_neg (by omega), if_pos (by omega), if_neg (by omega)] at hp; exact hp
theorem yq_operand {n j : Nat} (hn : n < 24) (hj : j < 2 ^ 31) (h1 : j = 1 → ybs n = nI (sb n)) (h2 : j ≠ 0 → j ≠ 1 → ycs n = nI (tc n)) (hp : post (nI (re_nm fa sb tc n j))) : wpY_operand post (nI st, nI nd, nI bu, yad, nI wk, nI nx, nI kc1, nI kc0, nI kc2, nI kc3, nI kc4, nI kc5, nI kc6, nI kc7, yts, nI gi, yga, ar_N ww, ar_N rg, ar_N ce, gs, ar_N kd, ar_N fa, ybs, ycs, ar_N sg, ywd, ar_O so, ycd, yws, ar_N nb, ar_N sy, ar_N vl, ar_N pv, ar_N pc, ygu, ar_N gv, ar_N dn, ar_N wo, ar_N pp, ar_N yo, ar_N wh, ar_N wt, ar_N wi, ar_N tr, ar_N tg, yone, ytwo, ylv) (nI n) (nI j) := by
  unfold re_nm at hp
  simp (disch := omega) only [wpY_operand, forall_eq, ar_Nap, ar_Oap, nI_clamp, nI_leI, nI_ltI, nI_eq, ar_add, ar_mul, ar_in, ar_sub1, ar_ad1, ar_idec, ar_is, ar_ilt, ar_ile, ar_lti, ar_lei, ar_ieq, ar_ien, ar_nei, li_0, li_1, li_2, li_3, li_4, li_5, li_6, li_7, li_8, li_9, li_10, li_12, li_15, li_16, li_17, li_24, li_31, li_50, li_63, li_64, li_100, li_101, li_255, li_1000, li_65535, li_65536, ar_lit1]
  refine ⟨fun h => ⟨hn, ?_⟩, fun h => ⟨fun h2' => ⟨hn, ?_⟩, fun h2' => ⟨hn, ?_⟩⟩⟩
  · rw [if_pos h] at hp; exact hp
  · rw [if_neg h, if_pos h2'] at hp; rw [h1 h2']; exact hp
  · rw [if_neg h, if_neg h2'] at hp; rw [h2 h h2']; exact hp
theorem yq_leave1 (hp : poss 1 (nI st, nI nd, nI 0, yad, nI 0, nI kc1, nI kc1, nI kc0, nI kc2, nI kc3, nI kc4, nI kc5, nI kc6, nI kc7, yts, nI gi, yga, ar_N ww, ar_N rg, ar_N ce, gs, ar_N kd, ar_N fa, ybs, ycs, ar_N sg, ywd, ar_O so, ycd, yws, ar_N nb, ar_N sy, ar_N vl, ar_N pv, ar_N pc, ygu, ar_N gv, ar_N dn, ar_N wo, ar_N pp, ar_N yo, ar_N wh, ar_N wt, ar_N wi, ar_N tr, ar_N tg, yone, ytwo, ylv)) : wpY_leave poss (nI st, nI nd, nI bu, yad, nI wk, nI nx, nI kc1, nI kc0, nI kc2, nI kc3, nI kc4, nI kc5, nI kc6, nI kc7, yts, nI gi, yga, ar_N ww, ar_N rg, ar_N ce, gs, ar_N kd, ar_N fa, ybs, ycs, ar_N sg, ywd, ar_O so, ycd, yws, ar_N nb, ar_N sy, ar_N vl, ar_N pv, ar_N pc, ygu, ar_N gv, ar_N dn, ar_N wo, ar_N pp, ar_N yo, ar_N wh, ar_N wt, ar_N wi, ar_N tr, ar_N tg, yone, ytwo, ylv) 1 := br_f (by decide) hp
theorem yq_leave0 (hp : poss 0 (nI st, nI nd, nI bu, yad, nI wk, nI nx, nI kc1, nI kc0, nI kc2, nI kc3, nI kc4, nI kc5, nI kc6, nI kc7, yts, nI gi, yga, ar_N ww, ar_N rg, ar_N ce, gs, ar_N kd, ar_N fa, ybs, ycs, ar_N sg, ywd, ar_O so, ycd, yws, ar_N nb, ar_N sy, ar_N vl, ar_N pv, ar_N pc, ygu, ar_N gv, ar_N dn, ar_N wo, ar_N pp, ar_N yo, ar_N wh, ar_N wt, ar_N wi, ar_N tr, ar_N tg, yone, ytwo, ylv)) : wpY_leave poss (nI st, nI nd, nI bu, yad, nI wk, nI nx, nI kc1, nI kc0, nI kc2, nI kc3, nI kc4, nI kc5, nI kc6, nI kc7, yts, nI gi, yga, ar_N ww, ar_N rg, ar_N ce, gs, ar_N kd, ar_N fa, ybs, ycs, ar_N sg, ywd, ar_O so, ycd, yws, ar_N nb, ar_N sy, ar_N vl, ar_N pv, ar_N pc, ygu, ar_N gv, ar_N dn, ar_N wo, ar_N pp, ar_N yo, ar_N wh, ar_N wt, ar_N wi, ar_N tr, ar_N tg, yone, ytwo, ylv) 0 := br_t rfl hp
theorem yq_w128 {m : Nat} (hm : m < 24) (ha : fa m < 65536) (hp : post (nI (re_bl (fa m)))) : ∀ (d w n : Nat), w + d = re_bl (fa m) → 1 ≤ w → d < n → wY_widthBy_128 post (nI m) (nI st) (nI nd) (nI bu) yad (nI wk) (nI nx) (nI kc1) (nI kc0) (nI kc2) (nI kc3) (nI kc4) (nI kc5) (nI kc6) (nI kc7) yts (nI gi) yga (ar_N ww) (ar_N rg) (ar_N ce) gs (ar_N kd) (ar_N fa) ybs ycs (ar_N sg) ywd (ar_O so) ycd yws (ar_N nb) (ar_N sy) (ar_N vl) (ar_N pv) (ar_N pc) ygu (ar_N gv) (ar_N dn) (ar_N wo) (ar_N pp) (ar_N yo) (ar_N wh) (ar_N wt) (ar_N wi) (ar_N tr) (ar_N tg) yone ytwo ylv n (nI w) := by
  have h16 := re_bl16 ha
  intro d
  induction d with
  | zero =>
    intro w n hw h1 hn
    cases n with
    | zero => omega
    | succ n =>
      have hz : fa m / 2 ^ w = 0 := Nat.div_eq_of_lt (by rw [show w = re_bl (fa m) by omega]; exact re_blp _)
      have e := pk_shrN (n := fa m) (by omega) (nI w &&& 31) w (s_l w (by omega))
      rw [hz] at e
      rw [wY_widthBy_128]
      refine ⟨vp_in_nI hm (by omega), ?_⟩
      rw [nI_clamp (by omega)]
      refine br_t e ?_
      rw [show w = re_bl (fa m) by omega]
      exact hp
  | succ d ih =>
    intro w n hw h1 hn
    cases n with
    | zero => omega
    | succ n =>
      have hz : ¬ fa m < 2 ^ w := fun z => by have := re_blm h1 z; omega
      have hz2 : 0 < fa m / 2 ^ w := Nat.div_pos (by omega) (Nat.two_pow_pos w)
      have hz3 : fa m / 2 ^ w < 2 ^ 31 := Nat.lt_of_le_of_lt (Nat.div_le_self _ _) (by omega)
      have e := pk_shrN (n := fa m) (by omega) (nI w &&& 31) w (s_l w (by omega))
      rw [wY_widthBy_128]
      refine ⟨vp_in_nI hm (by omega), ?_⟩
      rw [nI_clamp (by omega)]
      refine br_f (fun z => nI_ne0 hz2 hz3 (e.symm.trans z)) ?_
      intro y ey
      rw [ey, nI_1]
      exact ih (w + 1) n (by omega) (by omega) (by omega)
theorem yq_widthBy {n : Nat} (hM : re_M st nd kd fa sb tc sg wd ww so cd ws ad gs xcd xws ycd yws ybs ycs xad yad) (hn : n < nd) (hw : ∀ m, m < n → ywd m = nI (wd m)) (hp : post (nI (re_w kd fa sb tc ww wd n))) : wpY_widthBy post (nI st, nI nd, nI bu, yad, nI wk, nI nx, nI kc1, nI kc0, nI kc2, nI kc3, nI kc4, nI kc5, nI kc6, nI kc7, yts, nI gi, yga, ar_N ww, ar_N rg, ar_N ce, gs, ar_N kd, ar_N fa, ybs, ycs, ar_N sg, ywd, ar_O so, ycd, yws, ar_N nb, ar_N sy, ar_N vl, ar_N pv, ar_N pc, ygu, ar_N gv, ar_N dn, ar_N wo, ar_N pp, ar_N yo, ar_N wh, ar_N wt, ar_N wi, ar_N tr, ar_N tg, yone, ytwo, ylv) (nI n) := by
  have hst := hM.1
  obtain ⟨b1, b2, b3, b4, b5, b6, b7, b8, -⟩ := hM.2.1 n hn
  have h16 := re_w16 hM
  have hn24 : n < 24 := by omega
  unfold wpY_widthBy
  refine ⟨vp_in_nI hn24 (by omega), ?_⟩
  rw [nI_clamp (by omega), ar_Nap]
  refine pk_le (kd n) 2 (fun k2 => ?_) (fun k2 => ?_)
  · unfold wY_widthBy_72
    refine ⟨vp_in_nI hn24 (by omega), fun k ek => ?_⟩
    rw [nI_clamp (by omega), ar_Nap] at ek
    rw [ek]
    refine br_f (nI_pos (by omega)) (br_f (nI_nlt (a := 8) (b := kd n) (by omega) (by omega)) ?_)
    unfold re_w at hp
    refine pk_eq (kd n) 0 (fun k0 => ?_) (fun k0 => ?_)
    · rw [if_pos k0] at hp
      exact ⟨17, yq_w128 hn24 (b2 k0) hp (re_bl (fa n) - 1) 1 17 (by have := re_bl1 (fa n); omega) (by omega) (by have := re_bl16 (b2 k0); omega)⟩
    rw [if_neg k0] at hp
    refine pk_eq (kd n) 1 (fun k1 => ?_) (fun k1 => ?_)
    · have f6 := b3 k1
      rw [if_pos k1] at hp
      refine ⟨vp_in_nI hn24 (by omega), ?_⟩
      rw [nI_clamp (by omega), ar_Nap]
      refine ⟨vp_in_nI f6 (by omega), ?_⟩
      rw [nI_clamp (by omega)]
      exact hp
    · have k2' : kd n = 2 := by omega
      rw [if_neg k1, if_pos k2'] at hp
      exact br_t (by rw [k2']; rfl) hp
  · have a4 := b4 (by omega)
    obtain ⟨a5, e5⟩ := b5 (by omega)
    have wa := h16 (fa n) (by omega)
    have wb := h16 (sb n) (by omega)
    -- the end, by the two widths
    have fin : ∀ u v : Nat, u ≤ 16 → v ≤ 16 → (kd n = 9 → u = wd (sb n) ∧ v = wd (tc n)) → (¬ kd n = 9 → u = wd (fa n) ∧ v = wd (sb n)) → wY_widthBy_72 post (nI n) 1 (nI u) (nI v) (nI st) (nI nd) (nI bu) yad (nI wk) (nI nx) (nI kc1) (nI kc0) (nI kc2) (nI kc3) (nI kc4) (nI kc5) (nI kc6) (nI kc7) yts (nI gi) yga (ar_N ww) (ar_N rg) (ar_N ce) gs (ar_N kd) (ar_N fa) ybs ycs (ar_N sg) ywd (ar_O so) ycd yws (ar_N nb) (ar_N sy) (ar_N vl) (ar_N pv) (ar_N pc) ygu (ar_N gv) (ar_N dn) (ar_N wo) (ar_N pp) (ar_N yo) (ar_N wh) (ar_N wt) (ar_N wi) (ar_N tr) (ar_N tg) yone ytwo ylv := by
      intro u v hu hv h9 hn9
      have big : re_w kd fa sb tc ww wd n = (if u ≤ v then v else u) → wY_widthBy_177 post (nI u) (nI v) (nI st) (nI nd) (nI bu) yad (nI wk) (nI nx) (nI kc1) (nI kc0) (nI kc2) (nI kc3) (nI kc4) (nI kc5) (nI kc6) (nI kc7) yts (nI gi) yga (ar_N ww) (ar_N rg) (ar_N ce) gs (ar_N kd) (ar_N fa) ybs ycs (ar_N sg) ywd (ar_O so) ycd yws (ar_N nb) (ar_N sy) (ar_N vl) (ar_N pv) (ar_N pc) ygu (ar_N gv) (ar_N dn) (ar_N wo) (ar_N pp) (ar_N yo) (ar_N wh) (ar_N wt) (ar_N wi) (ar_N tr) (ar_N tg) yone ytwo ylv := by
        intro e
        rw [e] at hp
        unfold wY_widthBy_177
        refine pk_le u v (fun q => ?_) (fun q => ?_)
        · rw [if_pos q] at hp; exact hp
        · rw [if_neg (by omega)] at hp; exact hp
      unfold wY_widthBy_72
      refine ⟨vp_in_nI hn24 (by omega), fun k ek => ?_⟩
      rw [nI_clamp (by omega), ar_Nap] at ek
      rw [ek]
      refine br_f (nI_pos (by omega)) ?_
      unfold re_w at hp big
      rw [if_neg (show ¬ kd n = 0 by omega), if_neg (show ¬ kd n = 1 by omega), if_neg (show ¬ kd n = 2 by omega)] at hp big
      refine pk_lt 8 (kd n) (fun k9 => ?_) (fun k9 => ?_)
      · have k9' : kd n = 9 := by omega
        obtain ⟨rfl, rfl⟩ := h9 k9'
        refine big ?_
        rw [if_neg (by omega), if_neg (by omega), if_pos k9']
      obtain ⟨rfl, rfl⟩ := hn9 (by omega)
      refine br_f (by rw [show (0 : Int32) = nI 0 from rfl, nI_eq (by omega) (by omega)]; omega) (br_f (by rw [show (1 : Int32) = nI 1 from rfl, nI_eq (by omega) (by omega)]; omega) (br_f (by rw [show (2 : Int32) = nI 2 from rfl, nI_eq (by omega) (by omega)]; omega) ?_))
      have big' : ¬ kd n = 5 → ¬ (kd n = 7 ∨ kd n = 8) → ¬ kd n = 9 → wY_widthBy_177 post (nI (wd (fa n))) (nI (wd (sb n))) (nI st) (nI nd) (nI bu) yad (nI wk) (nI nx) (nI kc1) (nI kc0) (nI kc2) (nI kc3) (nI kc4) (nI kc5) (nI kc6) (nI kc7) yts (nI gi) yga (ar_N ww) (ar_N rg) (ar_N ce) gs (ar_N kd) (ar_N fa) ybs ycs (ar_N sg) ywd (ar_O so) ycd yws (ar_N nb) (ar_N sy) (ar_N vl) (ar_N pv) (ar_N pc) ygu (ar_N gv) (ar_N dn) (ar_N wo) (ar_N pp) (ar_N yo) (ar_N wh) (ar_N wt) (ar_N wi) (ar_N tr) (ar_N tg) yone ytwo ylv := by
        intro q5 q7 q9
        refine big ?_
        rw [if_neg q5, if_neg q7, if_neg q9]
      refine pk_eq (kd n) 3 (fun k3 => big' (by omega) (by omega) (by omega)) (fun k3 => ?_)
      refine pk_eq (kd n) 4 (fun k4 => big' (by omega) (by omega) (by omega)) (fun k4 => ?_)
      refine pk_eq (kd n) 5 (fun k5 => ?_) (fun k5 => ?_)
      · rw [if_pos k5] at hp
        refine pk_le (wd (sb n)) (wd (fa n)) (fun q => ?_) (fun q => ?_)
        · rw [if_neg (by omega)] at hp; exact hp
        · rw [if_pos q] at hp; exact hp
      refine pk_eq (kd n) 6 (fun k6 => big' (by omega) (by omega) (by omega)) (fun k6 => ?_)
      rw [if_neg k5] at hp
      refine pk_eq (kd n) 7 (fun k7 => ?_) (fun k7 => ?_)
      · rw [if_pos (Or.inl k7)] at hp; exact hp
      have k8 : kd n = 8 := by omega
      rw [if_pos (Or.inr k8)] at hp
      exact br_t (by rw [k8]; rfl) hp
    refine ⟨vp_in_nI hn24 (by omega), ?_⟩
    refine pk_eq (kd n) 9 (fun k9 => ?_) (fun k9 => ?_)
    · obtain ⟨a6, e6⟩ := b6 k9
      have wc := h16 (tc n) (by omega)
      unfold wY_widthBy_39
      refine yq_operand (sb := sb) (tc := tc) (j := 1) hn24 (by omega) (fun _ => e5) (fun _ q => absurd rfl q) ?_
      refine ⟨vp_in_nI (show sb n < 24 by omega) (by omega), fun y ey => ⟨vp_in_nI hn24 (by omega), ?_⟩⟩
      rw [show (nI (re_nm fa sb tc n 1)).toNatClampNeg = sb n from nI_clamp (n := sb n) (by omega), hw _ a5] at ey
      rw [ey, nI_clamp (by omega), ar_Nap]
      refine br_t (by rw [k9]; rfl) ?_
      unfold wY_widthBy_66
      refine yq_operand (sb := sb) (tc := tc) (j := 2) hn24 (by omega) (fun q => absurd q (by decide)) (fun _ _ => e6) ?_
      refine ⟨vp_in_nI (show tc n < 24 by omega) (by omega), fun z ez => ?_⟩
      rw [show (nI (re_nm fa sb tc n 2)).toNatClampNeg = tc n from nI_clamp (n := tc n) (by omega), hw _ a6] at ez
      rw [ez]
      exact fin _ _ wb.2 wc.2 (fun _ => ⟨rfl, rfl⟩) (fun q => absurd k9 q)
    · unfold wY_widthBy_39
      refine yq_operand (sb := sb) (tc := tc) (j := 0) hn24 (by omega) (fun q => absurd q (by decide)) (fun q => absurd rfl q) ?_
      refine ⟨vp_in_nI (show fa n < 24 by omega) (by omega), fun y ey => ⟨vp_in_nI hn24 (by omega), ?_⟩⟩
      rw [show (nI (re_nm fa sb tc n 0)).toNatClampNeg = fa n from nI_clamp (n := fa n) (by omega), hw _ a4] at ey
      rw [ey, nI_clamp (by omega), ar_Nap]
      refine br_f (by rw [show (9 : Int32) = nI 9 from rfl, nI_eq (by omega) (by omega)]; exact k9) ?_
      unfold wY_widthBy_66
      refine yq_operand (sb := sb) (tc := tc) (j := 1) hn24 (by omega) (fun _ => e5) (fun _ q => absurd rfl q) ?_
      refine ⟨vp_in_nI (show sb n < 24 by omega) (by omega), fun z ez => ?_⟩
      rw [show (nI (re_nm fa sb tc n 1)).toNatClampNeg = sb n from nI_clamp (n := sb n) (by omega), hw _ a5] at ez
      rw [ez]
      exact fin _ _ wa.2 wb.2 (fun q => absurd q k9) (fun _ => ⟨rfl, rfl⟩)
/-- what the reference measures is what the component keeps -/
theorem yq_measure (hM : re_M st nd kd fa sb tc sg wd ww so cd ws ad gs xcd xws ycd yws ybs ycs xad yad) : ∃ ywd' : Nat → Int32, (∀ n, n < nd → ywd' n = nI (wd n)) ∧ ∀ posu : SY → Prop, posu (nI st, nI nd, nI bu, yad, nI wk, nI nx, nI kc1, nI kc0, nI kc2, nI kc3, nI kc4, nI kc5, nI kc6, nI kc7, yts, nI gi, yga, ar_N ww, ar_N rg, ar_N ce, gs, ar_N kd, ar_N fa, ybs, ycs, ar_N sg, ywd', ar_O so, ycd, yws, ar_N nb, ar_N sy, ar_N vl, ar_N pv, ar_N pc, ygu, ar_N gv, ar_N dn, ar_N wo, ar_N pp, ar_N yo, ar_N wh, ar_N wt, ar_N wi, ar_N tr, ar_N tg, yone, ytwo, ylv) → wpY_measure posu (nI st, nI nd, nI bu, yad, nI wk, nI nx, nI kc1, nI kc0, nI kc2, nI kc3, nI kc4, nI kc5, nI kc6, nI kc7, yts, nI gi, yga, ar_N ww, ar_N rg, ar_N ce, gs, ar_N kd, ar_N fa, ybs, ycs, ar_N sg, ywd, ar_O so, ycd, yws, ar_N nb, ar_N sy, ar_N vl, ar_N pv, ar_N pc, ygu, ar_N gv, ar_N dn, ar_N wo, ar_N pp, ar_N yo, ar_N wh, ar_N wt, ar_N wi, ar_N tr, ar_N tg, yone, ytwo, ylv) := by
  have hst := hM.1
  have main : ∀ d n (ywd : Nat → Int32), n + d = nd → (∀ m, m < n → ywd m = nI (wd m)) → ∃ ywd' : Nat → Int32, (∀ m, m < nd → ywd' m = nI (wd m)) ∧ ∀ posu : SY → Prop, posu (nI st, nI nd, nI bu, yad, nI wk, nI nx, nI kc1, nI kc0, nI kc2, nI kc3, nI kc4, nI kc5, nI kc6, nI kc7, yts, nI gi, yga, ar_N ww, ar_N rg, ar_N ce, gs, ar_N kd, ar_N fa, ybs, ycs, ar_N sg, ywd', ar_O so, ycd, yws, ar_N nb, ar_N sy, ar_N vl, ar_N pv, ar_N pc, ygu, ar_N gv, ar_N dn, ar_N wo, ar_N pp, ar_N yo, ar_N wh, ar_N wt, ar_N wi, ar_N tr, ar_N tg, yone, ytwo, ylv) → wY_measure_2 posu (nI st) (nI nd) (nI bu) yad (nI wk) (nI nx) (nI kc1) (nI kc0) (nI kc2) (nI kc3) (nI kc4) (nI kc5) (nI kc6) (nI kc7) yts (nI gi) yga (d + 1) (nI n) (ar_N ww) (ar_N rg) (ar_N ce) gs (ar_N kd) (ar_N fa) ybs ycs (ar_N sg) ywd (ar_O so) ycd yws (ar_N nb) (ar_N sy) (ar_N vl) (ar_N pv) (ar_N pc) ygu (ar_N gv) (ar_N dn) (ar_N wo) (ar_N pp) (ar_N yo) (ar_N wh) (ar_N wt) (ar_N wi) (ar_N tr) (ar_N tg) yone ytwo ylv := by
    intro d
    induction d with
    | zero =>
      intro n ywd hn hw
      have e : n = nd := by omega
      subst e
      refine ⟨ywd, hw, fun posu hp => ?_⟩
      rw [wY_measure_2]
      exact br_t (nI_le (Nat.le_refl _) (by omega)) hp
    | succ d ih =>
      intro n ywd hn hw
      have he := (hM.2.1 n (by omega)).2.2.2.2.2.2.2.2
      obtain ⟨ywd', i1, i2⟩ := ih (n + 1) (upd ywd n (nI (wd n))) (by omega) (fun m hm => by
        by_cases q : m = n
        · subst q; rw [pk_us]
        · rw [pk_un q]; exact hw m (by omega))
      refine ⟨ywd', i1, fun posu hp => ?_⟩
      rw [wY_measure_2]
      refine br_f (nI_ge (by omega) (by omega)) ?_
      refine yq_widthBy hM (by omega) hw ?_
      rw [← he]
      refine ⟨vp_in_nI (by omega) (by omega), fun y ey w ew => ?_⟩
      rw [nI_clamp (by omega)] at ey
      rw [ey, ew, nI_1]
      exact i2 posu hp
  obtain ⟨ywd', h1, h2⟩ := main nd 0 ywd (by omega) (fun m hm => absurd hm (by omega))
  exact ⟨ywd', h1, fun posu hp => ⟨nd + 1, h2 posu hp⟩⟩
end
end
section
/-! slots and the row: pure -/
/-- the slot of the next older one; the number of stages if there is none -/
def re_ol (st : Nat) (sy : Nat → Nat) (x : Nat) : Nat := if x = 0 then st else sy (x - 1)
/-- one more than the slot of the next younger one; 0 if there is none -/
def re_yg (wk : Nat) (sy : Nat → Nat) (x : Nat) : Nat := if x + 1 < wk then sy (x + 1) + 1 else 0
section
variable {st wk nx c1 : Nat} {nm nb sy : Nat → Nat}
theorem re_mono (h : re_O st wk nx c1 nm nb sy) : ∀ d x, x + d + 1 < wk → sy (x + d + 1) < sy x := by
  intro d
  induction d with
  | zero => intro x hx; exact h.2.1 x hx
  | succ d ih =>
    intro x hx
    have h1 := h.2.1 (x + d + 1) (by omega)
    have h2 := ih x (by omega)
    show sy (x + d + 1 + 1) < sy x
    omega
theorem re_lt (h : re_O st wk nx c1 nm nb sy) {x y : Nat} (hxy : x < y) (hy : y < wk) : sy y < sy x := by
  have := re_mono h (y - x - 1) x (by omega)
  rw [show x + (y - x - 1) + 1 = y by omega] at this
  exact this
theorem re_inj (h : re_O st wk nx c1 nm nb sy) {x y : Nat} (hx : x < wk) (hy : y < wk) (e : sy x = sy y) : x = y := by
  rcases Nat.lt_trichotomy x y with q | q | q
  · have := re_lt h q hy; omega
  · exact q
  · have := re_lt h q hx; omega
/-- a slot within is empty, or somebody's -/
theorem re_who (h : re_O st wk nx c1 nm nb sy) {s : Nat} (h5 : s < 5) : nm s = 0 ∨ ∃ x, x < wk ∧ sy x = s := by
  by_cases q : ∃ x, x < wk ∧ sy x = s
  · exact Or.inr q
  · exact Or.inl ((h.2.2.2.1 s).1 h5 (fun x hx e => q ⟨x, hx, e⟩))
theorem re_nm0 (h : re_O st wk nx c1 nm nb sy) {s : Nat} (hs : st ≤ s) (h5 : s < 5) : nm s = 0 := by
  refine (h.2.2.2.1 s).1 h5 (fun x hx e => ?_)
  have := h.1 x hx
  omega
theorem re_nmn (h : re_O st wk nx c1 nm nb sy) {x : Nat} (hx : x < wk) : nm (sy x) ≠ 0 := by
  have := (h.2.2.1 x hx).1
  omega
theorem re_nmb (h : re_O st wk nx c1 nm nb sy) (hc : c1 + wk < 2 ^ 31) (s : Nat) : nm s ≤ 2 ^ 31 := by
  rcases Nat.lt_or_ge s 5 with c | c
  · rcases re_who h c with q | ⟨x, hx, e⟩
    · omega
    · have := h.2.2.1 x hx
      rw [← e]
      omega
  · rw [(h.2.2.2.1 s).2 c]; omega
theorem re_wk (h : re_O st wk nx c1 nm nb sy) : wk ≤ st := by
  have : ∀ x, x < wk → sy x + x < st := by
    intro x
    induction x with
    | zero => intro hx; exact h.1 0 hx
    | succ x ih =>
      intro hx
      have h1 := ih (by omega)
      have h2 := h.2.1 x hx
      omega
  by_cases z : wk = 0
  · omega
  · have := this (wk - 1) (by omega)
    omega
theorem re_wk0 (h : re_O st wk nx c1 nm nb sy) (h0 : 0 < wk) (hz : 0 < sy (wk - 1)) : wk < st := by
  have : ∀ x, x < wk → sy x + x < st := by
    intro x
    induction x with
    | zero => intro hx; exact h.1 0 hx
    | succ x ih =>
      intro hx
      have h1 := ih (by omega)
      have h2 := h.2.1 x hx
      omega
  have := this (wk - 1) (by omega)
  omega
theorem re_olP (h : re_O st wk nx c1 nm nb sy) (hst : st ≤ 5) {x : Nat} (hx : x < wk) : sy x < re_ol st sy x ∧ re_ol st sy x ≤ st ∧ (∀ j, sy x < j → j < re_ol st sy x → nm j = 0) ∧ (re_ol st sy x = st ∨ nm (re_ol st sy x) ≠ 0) := by
  unfold re_ol
  by_cases z : x = 0
  · subst z
    rw [if_pos rfl]
    refine ⟨h.1 0 hx, Nat.le_refl _, fun j h1 h2 => ?_, Or.inl rfl⟩
    refine (h.2.2.2.1 j).1 (by omega) (fun y hy e => ?_)
    rcases Nat.eq_zero_or_pos y with q | q
    · subst q; omega
    · have := re_lt h q hy; omega
  · rw [if_neg z]
    have h1 := re_lt h (x := x - 1) (y := x) (by omega) hx
    have h2 := h.1 (x - 1) (by omega)
    refine ⟨h1, by omega, fun j h3 h4 => ?_, Or.inr (re_nmn h (by omega))⟩
    refine (h.2.2.2.1 j).1 (by omega) (fun y hy e => ?_)
    rcases Nat.lt_trichotomy y x with q | q | q
    · rcases Nat.lt_or_ge y (x - 1) with q2 | q2
      · have := re_lt h q2 (by omega); omega
      · have : y = x - 1 := by omega
        subst this; omega
    · subst q; omega
    · have := re_lt h q hy; omega
theorem re_ygP (h : re_O st wk nx c1 nm nb sy) (hst : st ≤ 5) {x : Nat} (hx : x < wk) : re_yg wk sy x ≤ sy x ∧ (∀ j, re_yg wk sy x ≤ j → j < sy x → nm j = 0) ∧ (re_yg wk sy x = 0 ∨ nm (re_yg wk sy x - 1) ≠ 0) := by
  unfold re_yg
  by_cases z : x + 1 < wk
  · rw [if_pos z]
    have h1 := h.2.1 x z
    refine ⟨by omega, fun j h2 h3 => ?_, Or.inr ?_⟩
    · refine (h.2.2.2.1 j).1 (by have := h.1 x hx; omega) (fun y hy e => ?_)
      rcases Nat.lt_trichotomy y (x + 1) with q | q | q
      · rcases Nat.lt_or_ge y x with q2 | q2
        · have := re_lt h q2 hx; omega
        · have : y = x := by omega
          subst this; omega
      · subst q; omega
      · have := re_lt h q hy; omega
    · rw [Nat.add_sub_cancel]; exact re_nmn h z
  · rw [if_neg z]
    refine ⟨Nat.zero_le _, fun j h2 h3 => ?_, Or.inl rfl⟩
    refine (h.2.2.2.1 j).1 (by have := h.1 x hx; omega) (fun y hy e => ?_)
    rcases Nat.lt_trichotomy y x with q | q | q
    · have := re_lt h q hx; omega
    · subst q; omega
    · omega
end
/-- how many slots up to that of one are taken: it and the younger ones -/
theorem re_cntA {nm : Nat → Nat} : ∀ d j, (∀ i, j ≤ i → i < j + d → nm i = 0) → ar_cnt nm j d = 0 := by
  intro d
  induction d with
  | zero => intro j _; rfl
  | succ d ih =>
    intro j h
    show (if nm j = 0 then 0 else 1) + _ = 0
    rw [if_pos (h j (by omega) (by omega)), ih (j + 1) (fun i h1 h2 => h i (by omega) (by omega))]
theorem re_cntS (nm : Nat → Nat) : ∀ d e j, ar_cnt nm j (d + e) = ar_cnt nm j d + ar_cnt nm (j + d) e := by
  intro d
  induction d with
  | zero => intro e j; rw [Nat.zero_add, Nat.add_zero]; exact (Nat.zero_add _).symm
  | succ d ih =>
    intro e j
    rw [show d + 1 + e = (d + e) + 1 by omega]
    show (if nm j = 0 then 0 else 1) + ar_cnt nm (j + 1) (d + e) = (if nm j = 0 then 0 else 1) + ar_cnt nm (j + 1) d + _
    rw [ih e (j + 1), show j + 1 + d = j + (d + 1) by omega, Nat.add_assoc]
theorem re_cnt {st wk nx c1 : Nat} {nm nb sy : Nat → Nat} (h : re_O st wk nx c1 nm nb sy) (hst : st ≤ 5) : ∀ d x, x + d + 1 = wk → ar_cnt nm 0 (sy x + 1) = d + 1 := by
  intro d
  induction d with
  | zero =>
    intro x hx
    rw [re_cntS nm (sy x) 1 0, re_cntA (sy x) 0 (fun i _ h2 => ?_)]
    · show 0 + ((if nm (0 + sy x) = 0 then 0 else 1) + 0) = 1
      rw [Nat.zero_add, Nat.zero_add, if_neg (re_nmn h (x := x) (by omega))]
    · refine (h.2.2.2.1 i).1 (by have := h.1 x (by omega); omega) (fun y hy e => ?_)
      rcases Nat.lt_or_ge y x with q | q
      · have := re_lt h q (by omega); omega
      · have : y = x := by omega
        subst this; omega
  | succ d ih =>
    intro x hx
    have h1 := h.2.1 x (by omega)
    have e : sy x + 1 = (sy (x + 1) + 1) + ((sy x - sy (x + 1) - 1) + 1) := by omega
    rw [e, re_cntS nm, ih (x + 1) (by omega), re_cntS nm, re_cntA (sy x - sy (x + 1) - 1) _ (fun i h2 h3 => ?_)]
    · show d + 1 + (0 + ((if nm (0 + (sy (x + 1) + 1) + (sy x - sy (x + 1) - 1)) = 0 then 0 else 1) + 0)) = d + 1 + 1
      rw [show 0 + (sy (x + 1) + 1) + (sy x - sy (x + 1) - 1) = sy x by omega, if_neg (re_nmn h (x := x) (by omega))]
    · have := (re_olP h hst (x := x + 1) (by omega)).2.2.1 i (by omega)
      unfold re_ol at this
      rw [if_neg (by omega), Nat.add_sub_cancel] at this
      exact this (by omega)
/-- the latest that gives: one more than its place in the row, 0 if none -/
def re_fd (pp yo pc : Nat → Nat) (t k : Nat) : Nat → Nat
  | 0 => 0
  | i + 1 => if pp (7 * i + t) = 1 ∧ yo (7 * i + t) = 1 ∧ (t = 6 → pc i = k) then i + 1 else re_fd pp yo pc t k i
def re_gv (so pp yo pc : Nat → Nat) (t k x : Nat) : Nat := if so t = 0 then 0 else re_fd pp yo pc t k x
def re_lk (so pp yo pc pv rg ce : Nat → Nat) (t k x : Nat) : Nat := if re_gv so pp yo pc t k x = 0 then (if t = 6 then ce k else rg t) else pv (7 * (re_gv so pp yo pc t k x - 1) + t)
theorem re_fdT {pp yo pc : Nat → Nat} {t k i : Nat} (h : pp (7 * i + t) = 1 ∧ yo (7 * i + t) = 1 ∧ (t = 6 → pc i = k)) : re_fd pp yo pc t k (i + 1) = i + 1 := if_pos h
theorem re_fdF {pp yo pc : Nat → Nat} {t k i : Nat} (h : ¬ (pp (7 * i + t) = 1 ∧ yo (7 * i + t) = 1 ∧ (t = 6 → pc i = k))) : re_fd pp yo pc t k (i + 1) = re_fd pp yo pc t k i := if_neg h
theorem re_fdP (pp yo pc : Nat → Nat) (t k : Nat) : ∀ x, re_fd pp yo pc t k x = 0 ∨ (0 < re_fd pp yo pc t k x ∧ re_fd pp yo pc t k x ≤ x ∧ pp (7 * (re_fd pp yo pc t k x - 1) + t) = 1) := by
  intro x
  induction x with
  | zero => exact Or.inl rfl
  | succ i ih =>
    unfold re_fd
    by_cases z : pp (7 * i + t) = 1 ∧ yo (7 * i + t) = 1 ∧ (t = 6 → pc i = k)
    · rw [if_pos z]
      exact Or.inr ⟨by omega, by omega, by rw [Nat.add_sub_cancel]; exact z.1⟩
    · rw [if_neg z]
      rcases ih with q | ⟨q1, q2, q3⟩
      · exact Or.inl q
      · exact Or.inr ⟨q1, by omega, q3⟩
theorem re_gvP (so pp yo pc : Nat → Nat) (t k x : Nat) : re_gv so pp yo pc t k x = 0 ∨ (0 < re_gv so pp yo pc t k x ∧ re_gv so pp yo pc t k x ≤ x ∧ pp (7 * (re_gv so pp yo pc t k x - 1) + t) = 1) := by
  unfold re_gv
  by_cases z : so t = 0
  · rw [if_pos z]; exact Or.inl rfl
  · rw [if_neg z]; exact re_fdP pp yo pc t k x
/-- whether what a register, or a cell, is for one is known -/
abbrev re_kn (so pp : Nat → Nat) (x t : Nat) : Prop := so t = 0 ∨ x = 0 ∨ pp (7 * (x - 1) + t) = 1
end
section
/-! what an instruction sees: the component -/
section
variable {st nd bu nx wk kc1 kc0 kc2 kc3 kc4 kc5 kc6 kc7 gi ad : Nat} {xad xga xto yad yts yga : Int32} {kd sb tc sg wd fa ww so rg ce nm xdn xsn xpr xcl ct nb sy vl pv pc gv dn wo pp yo wh wt wi tr tg cd ws : Nat → Nat} {gs xcd xws xon xgu xlf xrt xlv ybs ycs ywd ycd yws ygu yone ytwo ylv : Nat → Int32} {xtr : Nat → Int64}
variable {post : Int32 → Prop} {poss : Int32 → SX → Prop} {posu : SX → Prop}
theorem xq_older4 {k : Nat} (hk : k ≤ st) (hst : st ≤ 5) (hb : ∀ i, nm i ≤ 2 ^ 31) (he : k = st ∨ nm k ≠ 0) (hp : post (nI k)) : ∀ d j n, j + d = k → d < n → (∀ i, j ≤ i → i < k → nm i = 0) → wX_older_4 post (nI st) (nI nd) (nI bu) xad (nI nx) xga xto (ar_N kd) (ar_N sb) (ar_N tc) (ar_N sg) (ar_N wd) (ar_N fa) (ar_N ww) gs (ar_O so) xcd xws (ar_N rg) (ar_N ce) (ar_O nm) xon xgu (ar_N xdn) (ar_N xsn) (ar_N xpr) (ar_N xcl) xtr (ar_N ct) xlf xrt xlv n (nI j) := by
  intro d
  induction d with
  | zero =>
    intro j n hj hn hz
    have e : j = k := by omega
    subst e
    cases n with
    | zero => omega
    | succ n =>
      have hbj := hb j
      simp (disch := omega) only [wX_older_4, forall_eq, ar_Nap, ar_Oap, nI_clamp, nI_leI, nI_ltI, nI_eq, ar_add, ar_mul, ar_in, ar_sub1, ar_ad1, ar_idec, ar_is, ar_ilt, ar_ile, ar_lti, ar_lei, ar_ieq, ar_ien, ar_nei, li_0, li_1, li_2, li_3, li_4, li_5, li_6, li_7, li_8, li_9, li_10, li_12, li_15, li_16, li_17, li_24, li_31, li_50, li_63, li_64, li_100, li_101, li_255, li_1000, li_65535, li_65536, ar_lit1]
      exact ⟨fun _ => hp, fun z => ⟨by omega, fun _ => hp, fun z2 => absurd (by omega) z2⟩⟩
  | succ d ih =>
    intro j n hj hn hz
    cases n with
    | zero => omega
    | succ n =>
      have hz0 := hz j (by omega) (by omega)
      simp (disch := omega) only [wX_older_4, forall_eq, ar_Nap, ar_Oap, nI_clamp, nI_leI, nI_ltI, nI_eq, ar_add, ar_mul, ar_in, ar_sub1, ar_ad1, ar_idec, ar_is, ar_ilt, ar_ile, ar_lti, ar_lei, ar_ieq, ar_ien, ar_nei, li_0, li_1, li_2, li_3, li_4, li_5, li_6, li_7, li_8, li_9, li_10, li_12, li_15, li_16, li_17, li_24, li_31, li_50, li_63, li_64, li_100, li_101, li_255, li_1000, li_65535, li_65536, ar_lit1, hz0]
      refine ⟨fun z => absurd z (by omega), fun z => ⟨by omega, fun z2 => absurd z2 (by omega), fun _ => ?_⟩⟩
      exact ih (j + 1) n (by omega) (by omega) (fun i h1 h2 => hz i (by omega) h2)
theorem xq_older {x : Nat} (hO : re_O st wk nx (ct 1) nm nb sy) (hst : st ≤ 5) (hc : ct 1 + wk < 2 ^ 31) (hx : x < wk) (hp : post (nI (re_ol st sy x))) : wpX_older post (nI st, nI nd, nI bu, xad, nI nx, xga, xto, ar_N kd, ar_N sb, ar_N tc, ar_N sg, ar_N wd, ar_N fa, ar_N ww, gs, ar_O so, xcd, xws, ar_N rg, ar_N ce, ar_O nm, xon, xgu, ar_N xdn, ar_N xsn, ar_N xpr, ar_N xcl, xtr, ar_N ct, xlf, xrt, xlv) (nI (sy x)) := by
  obtain ⟨h1, h2, h3, h4⟩ := re_olP hO hst hx
  unfold wpX_older
  intro y ey
  rw [ey, nI_1]
  exact ⟨_, xq_older4 h2 hst (re_nmb hO hc) h4 hp (re_ol st sy x - sy x - 1) (sy x + 1) _ (by omega) (Nat.lt_succ_self _) (fun i h5 h6 => h3 i (by omega) h6)⟩
theorem xq_younger4 {k : Nat} (hb : ∀ i, nm i ≤ 2 ^ 31) (he : k = 0 ∨ nm (k - 1) ≠ 0) (hp : post (ar_i k)) : ∀ d j n, k + d = j → j ≤ 5 → d < n → (∀ i, k ≤ i → i < j → nm i = 0) → wX_younger_4 post (nI st) (nI nd) (nI bu) xad (nI nx) xga xto (ar_N kd) (ar_N sb) (ar_N tc) (ar_N sg) (ar_N wd) (ar_N fa) (ar_N ww) gs (ar_O so) xcd xws (ar_N rg) (ar_N ce) (ar_O nm) xon xgu (ar_N xdn) (ar_N xsn) (ar_N xpr) (ar_N xcl) xtr (ar_N ct) xlf xrt xlv n (ar_i j) := by
  intro d
  induction d with
  | zero =>
    intro j n hj h5 hn hz
    have e : j = k := by omega
    subst e
    cases n with
    | zero => omega
    | succ n =>
      cases j with
      | zero =>
        simp (disch := omega) only [wX_younger_4, forall_eq, ar_Nap, ar_Oap, nI_clamp, nI_leI, nI_ltI, nI_eq, ar_add, ar_mul, ar_in, ar_sub1, ar_ad1, ar_idec, ar_is, ar_ilt, ar_ile, ar_lti, ar_lei, ar_ieq, ar_ien, ar_nei, li_0, li_1, li_2, li_3, li_4, li_5, li_6, li_7, li_8, li_9, li_10, li_12, li_15, li_16, li_17, li_24, li_31, li_50, li_63, li_64, li_100, li_101, li_255, li_1000, li_65535, li_65536, ar_lit1]
        exact ⟨fun _ => hp, fun z => absurd (by omega) z⟩
      | succ j =>
        have hbj := hb j
        simp (disch := omega) only [wX_younger_4, forall_eq, ar_Nap, ar_Oap, nI_clamp, nI_leI, nI_ltI, nI_eq, ar_add, ar_mul, ar_in, ar_sub1, ar_ad1, ar_idec, ar_is, ar_ilt, ar_ile, ar_lti, ar_lei, ar_ieq, ar_ien, ar_nei, li_0, li_1, li_2, li_3, li_4, li_5, li_6, li_7, li_8, li_9, li_10, li_12, li_15, li_16, li_17, li_24, li_31, li_50, li_63, li_64, li_100, li_101, li_255, li_1000, li_65535, li_65536, ar_lit1]
        rw [Nat.add_sub_cancel] at he
        exact ⟨fun z => absurd z (by omega), fun z => ⟨by omega, fun _ => hp, fun z2 => absurd (by omega) z2⟩⟩
  | succ d ih =>
    intro j n hj h5 hn hz
    cases n with
    | zero => omega
    | succ n =>
      cases j with
      | zero => omega
      | succ j =>
        have hz0 := hz j (by omega) (by omega)
        simp (disch := omega) only [wX_younger_4, forall_eq, ar_Nap, ar_Oap, nI_clamp, nI_leI, nI_ltI, nI_eq, ar_add, ar_mul, ar_in, ar_sub1, ar_ad1, ar_idec, ar_is, ar_ilt, ar_ile, ar_lti, ar_lei, ar_ieq, ar_ien, ar_nei, li_0, li_1, li_2, li_3, li_4, li_5, li_6, li_7, li_8, li_9, li_10, li_12, li_15, li_16, li_17, li_24, li_31, li_50, li_63, li_64, li_100, li_101, li_255, li_1000, li_65535, li_65536, ar_lit1, hz0]
        refine ⟨fun z => absurd z (by omega), fun z => ⟨by omega, fun z2 => absurd z2 (by omega), fun _ => ?_⟩⟩
        exact ih j n (by omega) (by omega) (by omega) (fun i h1 h2 => hz i h1 (by omega))
theorem xq_younger {x : Nat} (hO : re_O st wk nx (ct 1) nm nb sy) (hst : st ≤ 5) (hc : ct 1 + wk < 2 ^ 31) (hx : x < wk) (hp : post (ar_i (re_yg wk sy x))) : wpX_younger post (nI st, nI nd, nI bu, xad, nI nx, xga, xto, ar_N kd, ar_N sb, ar_N tc, ar_N sg, ar_N wd, ar_N fa, ar_N ww, gs, ar_O so, xcd, xws, ar_N rg, ar_N ce, ar_O nm, xon, xgu, ar_N xdn, ar_N xsn, ar_N xpr, ar_N xcl, xtr, ar_N ct, xlf, xrt, xlv) (nI (sy x)) := by
  obtain ⟨h1, h3, h4⟩ := re_ygP hO hst hx
  have := hO.1 x hx
  unfold wpX_younger
  intro y ey
  rw [ey, show (1 : Int32) = nI 1 from rfl, ar_sub1]
  exact ⟨_, xq_younger4 (re_nmb hO hc) h4 hp (sy x - re_yg wk sy x) (sy x) _ (by omega) (by omega) (Nat.lt_succ_self _) (fun i h5 h6 => h3 i h5 h6)⟩
/-- hasPrepared, for one of the row -/
theorem xq_hasPrep {x t : Nat} (hM : re_M st nd kd fa sb tc sg wd ww so cd ws ad gs xcd xws ycd yws ybs ycs xad yad) (hO : re_O st wk nx (ct 1) nm nb sy) (hD : ∀ x, x < wk → xdn (sy x) = dn x ∧ dn x ≤ 1) (hP : re_P wk so ws sy dn pp) (hx : x < wk) (ht : t < 7) (hs : so t ≠ 0) (h1 : pp (7 * x + t) = 1 → post 1) (h0 : pp (7 * x + t) ≠ 1 → post 0) : wpX_hasPrepared post (nI st, nI nd, nI bu, xad, nI nx, xga, xto, ar_N kd, ar_N sb, ar_N tc, ar_N sg, ar_N wd, ar_N fa, ar_N ww, gs, ar_O so, xcd, xws, ar_N rg, ar_N ce, ar_O nm, xon, xgu, ar_N xdn, ar_N xsn, ar_N xpr, ar_N xcl, xtr, ar_N ct, xlf, xrt, xlv) (nI (sy x)) (nI t) := by
  obtain ⟨-, -, -, hw, -, hw4⟩ := (hM.2.2.2.1 t ht).2 hs
  have hst := hM.1
  have hsx := hO.1 x hx
  obtain ⟨hd, hd1⟩ := hD x hx
  have hp := hP x hx t ht
  simp (disch := omega) only [wpX_hasPrepared, forall_eq, ar_Nap, ar_Oap, nI_clamp, nI_leI, nI_ltI, nI_eq, ar_add, ar_mul, ar_in, ar_sub1, ar_ad1, ar_idec, ar_is, ar_ilt, ar_ile, ar_lti, ar_lei, ar_ieq, ar_ien, ar_nei, li_0, li_1, li_2, li_3, li_4, li_5, li_6, li_7, li_8, li_9, li_10, li_12, li_15, li_16, li_17, li_24, li_31, li_50, li_63, li_64, li_100, li_101, li_255, li_1000, li_65535, li_65536, ar_lit1, hw, hd]
  refine ⟨ht, fun z => h1 (hp.mpr ⟨hs, Or.inl z⟩), fun z => ⟨ht, fun z2 => ⟨by omega, fun z3 => h0 (fun q => ?_), fun z3 => h1 (hp.mpr ⟨hs, Or.inr ⟨by omega, by omega⟩⟩)⟩, fun z2 => h0 (fun q => ?_)⟩⟩
  · have := (hp.mp q).2
    unfold re_av at this
    omega
  · have := (hp.mp q).2
    unfold re_av at this
    omega
theorem xq_isKnown {x t : Nat} (hM : re_M st nd kd fa sb tc sg wd ww so cd ws ad gs xcd xws ycd yws ybs ycs xad yad) (hO : re_O st wk nx (ct 1) nm nb sy) (hD : ∀ x, x < wk → xdn (sy x) = dn x ∧ dn x ≤ 1) (hP : re_P wk so ws sy dn pp) (hc : ct 1 + wk < 2 ^ 31) (hx : x < wk) (ht : t < 7) (h1 : re_kn so pp x t → post 1) (h0 : ¬ re_kn so pp x t → post 0) : wpX_isKnown post (nI st, nI nd, nI bu, xad, nI nx, xga, xto, ar_N kd, ar_N sb, ar_N tc, ar_N sg, ar_N wd, ar_N fa, ar_N ww, gs, ar_O so, xcd, xws, ar_N rg, ar_N ce, ar_O nm, xon, xgu, ar_N xdn, ar_N xsn, ar_N xpr, ar_N xcl, xtr, ar_N ct, xlf, xrt, xlv) (nI (sy x)) (nI t) := by
  have hst := hM.1
  have hso := (hM.2.2.2.1 t ht).1
  simp (disch := omega) only [wpX_isKnown, ar_Oap, nI_clamp, li_0, li_1, li_2, li_3, li_4, li_5, li_6, li_7, li_8, li_9, li_10, li_12, li_15, li_16, li_17, li_24, li_31, li_50, li_63, li_64, li_100, li_101, li_255, li_1000, li_65535, li_65536, ar_lit1]
  refine ⟨vp_in_nI ht (by omega), ?_⟩
  by_cases z : so t = 0
  · refine br_f (by rw [ar_lei (by omega) (by omega)]; omega) ?_
    unfold wX_isKnown_21
    exact br_t rfl (h1 (Or.inl z))
  · refine br_t (by rw [ar_lei (by omega) (by omega)]; omega) ?_
    refine xq_older hO hst.2.1 hc hx ?_
    unfold wX_isKnown_21 re_ol
    by_cases z2 : x = 0
    · rw [if_pos z2]
      exact br_t rfl (h1 (Or.inr (Or.inl z2)))
    · rw [if_neg z2]
      have h2 := hO.1 (x - 1) (by omega)
      refine br_f (by rw [nI_eq (by omega) (by omega)]; omega) ?_
      refine xq_hasPrep hM hO hD hP (by omega) ht z (fun q => ?_) (fun q => ?_)
      · exact br_f (by decide) (h1 (Or.inr (Or.inr q)))
      · refine br_t rfl (h0 ?_)
        rintro (q1 | q1 | q1)
        · exact z q1
        · exact z2 q1
        · exact q q1
theorem xq_giver23 {t k : Nat} (hM : re_M st nd kd fa sb tc sg wd ww so cd ws ad gs xcd xws ycd yws ybs ycs xad yad) (hO : re_O st wk nx (ct 1) nm nb sy) (hQ : re_Q wk ww sy xon xpr xcl pv pc pp yo) (hc : ct 1 + wk < 2 ^ 31) (ht : t < 7) (hk : k < 2 ^ 31) : ∀ i n, i ≤ wk → i < n → post (nI (re_ol st sy (re_fd pp yo pc t k i))) → wX_giver_23 post (nI t) (nI k) (nI st) (nI nd) (nI bu) xad (nI nx) xga xto (ar_N kd) (ar_N sb) (ar_N tc) (ar_N sg) (ar_N wd) (ar_N fa) (ar_N ww) gs (ar_O so) xcd xws (ar_N rg) (ar_N ce) (ar_O nm) xon xgu (ar_N xdn) (ar_N xsn) (ar_N xpr) (ar_N xcl) xtr (ar_N ct) xlf xrt xlv n (nI (re_ol st sy i)) := by
  have hst := hM.1
  intro i
  induction i with
  | zero =>
    intro n hi hn hp
    cases n with
    | zero => omega
    | succ n =>
      rw [wX_giver_23]
      exact br_t (nI_le (by show st ≤ re_ol st sy 0; unfold re_ol; rw [if_pos rfl]; omega) (by unfold re_ol; rw [if_pos rfl]; omega)) hp
  | succ i ih =>
    intro n hi hn hp
    cases n with
    | zero => omega
    | succ n =>
      have e : re_ol st sy (i + 1) = sy i := by unfold re_ol; rw [if_neg (by omega), Nat.add_sub_cancel]
      have hs := hO.1 i (by omega)
      obtain ⟨q1, q2, q3, q4⟩ := hQ.1 i (by omega) t ht
      rw [wX_giver_23, e]
      simp (disch := omega) only [nI_clamp, ar_Nap, li_0, li_1, li_2, li_3, li_4, li_5, li_6, li_7, li_8, li_9, li_10, li_12, li_15, li_16, li_17, li_24, li_31, li_50, li_63, li_64, li_100, li_101, li_255, li_1000, li_65535, li_65536, ar_lit1, ar_bt0]
      refine br_f (nI_ge (by omega) (by omega)) ⟨vp_in_nI (by omega) (by omega), ?_⟩
      have more : ¬ (pp (7 * i + t) = 1 ∧ yo (7 * i + t) = 1 ∧ (t = 6 → pc i = k)) → wX_giver_63 post (wX_giver_23 post (nI t) (nI k) (nI st) (nI nd) (nI bu) xad (nI nx) xga xto (ar_N kd) (ar_N sb) (ar_N tc) (ar_N sg) (ar_N wd) (ar_N fa) (ar_N ww) gs (ar_O so) xcd xws (ar_N rg) (ar_N ce) (ar_O nm) xon xgu (ar_N xdn) (ar_N xsn) (ar_N xpr) (ar_N xcl) xtr (ar_N ct) xlf xrt xlv n) (nI t) (nI k) (nI (sy i)) (nI st) (nI nd) (nI bu) xad (nI nx) xga xto (ar_N kd) (ar_N sb) (ar_N tc) (ar_N sg) (ar_N wd) (ar_N fa) (ar_N ww) gs (ar_O so) xcd xws (ar_N rg) (ar_N ce) (ar_O nm) xon xgu (ar_N xdn) (ar_N xsn) (ar_N xpr) (ar_N xcl) xtr (ar_N ct) xlf xrt xlv := by
        intro z
        unfold wX_giver_63
        refine xq_older hO hst.2.1 hc (by omega) ?_
        refine ih n (by omega) (by omega) ?_
        unfold re_fd at hp
        rw [if_neg z] at hp
        exact hp
      have here : (pp (7 * i + t) = 1 ∧ yo (7 * i + t) = 1 ∧ (t = 6 → pc i = k)) → post (nI (sy i)) := by
        intro z
        unfold re_fd at hp
        rw [if_pos z, e] at hp
        exact hp
      refine ⟨fun z => more (fun q => ?_), fun z => ?_⟩
      · rw [q3.mpr ⟨q.1, q.2.1⟩] at z; cases z
      · have on := q3.mp (ts_nf z)
        refine pk_eq t 6 (fun h6 => ⟨vp_in_nI (by omega) (by omega), ?_⟩) (fun h6 => here ⟨on.1, on.2, fun q => absurd q h6⟩)
        subst h6
        obtain ⟨c1, c2⟩ := hQ.2.1 i (by omega) on.1
        refine pk_eq (pc i) k (fun hk => here ⟨on.1, on.2, fun _ => hk⟩) (fun hk => more (fun q => hk (q.2.2 rfl))) (by rw [c1])
theorem xq_giver {x t k : Nat} (hM : re_M st nd kd fa sb tc sg wd ww so cd ws ad gs xcd xws ycd yws ybs ycs xad yad) (hO : re_O st wk nx (ct 1) nm nb sy) (hQ : re_Q wk ww sy xon xpr xcl pv pc pp yo) (hc : ct 1 + wk < 2 ^ 31) (hx : x < wk) (ht : t < 7) (hk : k < 2 ^ 31) (hp : post (nI (re_ol st sy (re_gv so pp yo pc t k x)))) : wpX_giver post (nI st, nI nd, nI bu, xad, nI nx, xga, xto, ar_N kd, ar_N sb, ar_N tc, ar_N sg, ar_N wd, ar_N fa, ar_N ww, gs, ar_O so, xcd, xws, ar_N rg, ar_N ce, ar_O nm, xon, xgu, ar_N xdn, ar_N xsn, ar_N xpr, ar_N xcl, xtr, ar_N ct, xlf, xrt, xlv) (nI (sy x)) (nI t) (nI k) := by
  have hst := hM.1
  have hso := (hM.2.2.2.1 t ht).1
  unfold re_gv at hp
  simp (disch := omega) only [wpX_giver, ar_Oap, nI_clamp, li_0, li_1, li_2, li_3, li_4, li_5, li_6, li_7, li_8, li_9, li_10, li_12, li_15, li_16, li_17, li_24, li_31, li_50, li_63, li_64, li_100, li_101, li_255, li_1000, li_65535, li_65536, ar_lit1]
  refine ⟨vp_in_nI ht (by omega), ?_⟩
  by_cases z : so t = 0
  · refine br_f (by rw [ar_lei (by omega) (by omega)]; omega) ⟨1, ?_⟩
    rw [if_pos z] at hp
    rw [wX_giver_23]
    exact br_t (nI_le (Nat.le_refl _) (by omega)) hp
  · refine br_t (by rw [ar_lei (by omega) (by omega)]; omega) ?_
    rw [if_neg z] at hp
    refine xq_older hO hst.2.1 hc hx ⟨x + 1, ?_⟩
    exact xq_giver23 hM hO hQ hc ht hk x (x + 1) (by omega) (by omega) hp
theorem re_olst (hO : re_O st wk nx (ct 1) nm nb sy) {q : Nat} (hq : q ≤ wk) : (st ≤ re_ol st sy q ↔ q = 0) ∧ re_ol st sy q ≤ st := by
  unfold re_ol
  by_cases z : q = 0
  · rw [if_pos z]; omega
  · rw [if_neg z]
    have := hO.1 (q - 1) (by omega)
    omega
theorem xq_look {x t k : Nat} (hM : re_M st nd kd fa sb tc sg wd ww so cd ws ad gs xcd xws ycd yws ybs ycs xad yad) (hO : re_O st wk nx (ct 1) nm nb sy) (hQ : re_Q wk ww sy xon xpr xcl pv pc pp yo) (hc : ct 1 + wk < 2 ^ 31) (hx : x < wk) (ht : t < 7) (hk : k < 16) (hp : post (nI (re_lk so pp yo pc pv rg ce t k x))) : wpX_look post (nI st, nI nd, nI bu, xad, nI nx, xga, xto, ar_N kd, ar_N sb, ar_N tc, ar_N sg, ar_N wd, ar_N fa, ar_N ww, gs, ar_O so, xcd, xws, ar_N rg, ar_N ce, ar_O nm, xon, xgu, ar_N xdn, ar_N xsn, ar_N xpr, ar_N xcl, xtr, ar_N ct, xlf, xrt, xlv) (nI (sy x)) (nI t) (nI k) := by
  have hst := hM.1
  unfold re_lk at hp
  unfold wpX_look
  refine xq_giver hM hO hQ hc hx ht (by omega) ?_
  rcases re_gvP so pp yo pc t k x with z | ⟨z1, z2, z3⟩
  · rw [if_pos z] at hp
    rw [z]
    refine br_t (nI_le (by unfold re_ol; rw [if_pos rfl]; omega) (by unfold re_ol; rw [if_pos rfl]; omega)) ?_
    refine pk_eq t 6 (fun h6 => ⟨vp_in_nI (by omega) (by omega), ?_⟩) (fun h6 => ⟨vp_in_nI (by omega) (by omega), ?_⟩)
    · rw [if_pos h6] at hp
      rw [nI_clamp (by omega)]
      exact hp
    · rw [if_neg h6] at hp
      rw [nI_clamp (by omega)]
      exact hp
  · rw [if_neg (by omega)] at hp
    generalize re_gv so pp yo pc t k x = q at *
    obtain ⟨h1, h2⟩ := re_olst hO (q := q) (by omega)
    have e : re_ol st sy q = sy (q - 1) := by unfold re_ol; rw [if_neg (by omega)]
    have hs := hO.1 (q - 1) (by omega)
    obtain ⟨p1, p2, p3, p4⟩ := hQ.1 (q - 1) (by omega) t ht
    rw [e]
    refine br_f (nI_ge (by omega) (by omega)) ?_
    simp (disch := omega) only [forall_eq, ar_Nap, ar_Oap, nI_clamp, nI_leI, nI_ltI, nI_eq, ar_add, ar_mul, ar_in, ar_sub1, ar_ad1, ar_idec, ar_is, ar_ilt, ar_ile, ar_lti, ar_lei, ar_ieq, ar_ien, ar_nei, li_0, li_1, li_2, li_3, li_4, li_5, li_6, li_7, li_8, li_9, li_10, li_12, li_15, li_16, li_17, li_24, li_31, li_50, li_63, li_64, li_100, li_101, li_255, li_1000, li_65535, li_65536, ar_lit1]
    refine ⟨by omega, ?_⟩
    rw [(p4 z3).1]
    exact hp
theorem xq_readOf {s r n0 : Nat} (hs : s < 5) (h24 : n0 < 24) (hr : r < 2 ^ 31) (hk : ∀ j, j ≤ n0 → kd j < 2 ^ 31 ∧ fa j < 2 ^ 31) (h1 : kd n0 = 1) (h2 : fa n0 = r) (hl : ∀ j, j < n0 → ¬ (kd j = 1 ∧ fa j = r)) (hp : post (nI (xsn (24 * s + n0)))) : wpX_readOf post (nI st, nI nd, nI bu, xad, nI nx, xga, xto, ar_N kd, ar_N sb, ar_N tc, ar_N sg, ar_N wd, ar_N fa, ar_N ww, gs, ar_O so, xcd, xws, ar_N rg, ar_N ce, ar_O nm, xon, xgu, ar_N xdn, ar_N xsn, ar_N xpr, ar_N xcl, xtr, ar_N ct, xlf, xrt, xlv) (nI s) (nI r) := by
  have main : ∀ d j n, j + d = n0 → d < n → wX_readOf_2 post (nI s) (nI r) (nI st) (nI nd) (nI bu) xad (nI nx) xga xto (ar_N kd) (ar_N sb) (ar_N tc) (ar_N sg) (ar_N wd) (ar_N fa) (ar_N ww) gs (ar_O so) xcd xws (ar_N rg) (ar_N ce) (ar_O nm) xon xgu (ar_N xdn) (ar_N xsn) (ar_N xpr) (ar_N xcl) xtr (ar_N ct) xlf xrt xlv n (nI j) := by
    intro d
    induction d with
    | zero =>
      intro j n hj hn
      have e : j = n0 := by omega
      subst e
      have hb := hk j (Nat.le_refl _)
      cases n with
      | zero => omega
      | succ n =>
        simp (disch := omega) only [wX_readOf_2, forall_eq, ar_Nap, ar_Oap, nI_clamp, nI_leI, nI_ltI, nI_eq, ar_add, ar_mul, ar_in, ar_sub1, ar_ad1, ar_idec, ar_is, ar_ilt, ar_ile, ar_lti, ar_lei, ar_ieq, ar_ien, ar_nei, li_0, li_1, li_2, li_3, li_4, li_5, li_6, li_7, li_8, li_9, li_10, li_12, li_15, li_16, li_17, li_24, li_31, li_50, li_63, li_64, li_100, li_101, li_255, li_1000, li_65535, li_65536, ar_lit1]
        exact ⟨h24, fun _ => ⟨h24, fun _ => ⟨by omega, hp⟩, fun z => absurd h2 z⟩, fun z => absurd h1 z⟩
    | succ d ih =>
      intro j n hj hn
      have hb := hk j (by omega)
      cases n with
      | zero => omega
      | succ n =>
        simp (disch := omega) only [wX_readOf_2, forall_eq, ar_Nap, ar_Oap, nI_clamp, nI_leI, nI_ltI, nI_eq, ar_add, ar_mul, ar_in, ar_sub1, ar_ad1, ar_idec, ar_is, ar_ilt, ar_ile, ar_lti, ar_lei, ar_ieq, ar_ien, ar_nei, li_0, li_1, li_2, li_3, li_4, li_5, li_6, li_7, li_8, li_9, li_10, li_12, li_15, li_16, li_17, li_24, li_31, li_50, li_63, li_64, li_100, li_101, li_255, li_1000, li_65535, li_65536, ar_lit1]
        exact ⟨by omega, fun z1 => ⟨by omega, fun z2 => absurd ⟨z1, z2⟩ (hl j (by omega)), fun z => ih (j + 1) n (by omega) (by omega)⟩, fun z => ih (j + 1) n (by omega) (by omega)⟩
  exact ⟨n0 + 1, main n0 0 (n0 + 1) (by omega) (by omega)⟩
/-- what must be known or guessed from a node on -/
def re_cn (nd x s : Nat) (kd fa sg so pp : Nat → Nat) (gs : Nat → Int32) (n : Nat) : Prop := ∀ m, n ≤ m → m < nd → sg m = s → (kd m = 1 → re_kn so pp x (fa m) ∨ gs (fa m) ≠ 9) ∧ (kd m = 2 → re_kn so pp x 6)
theorem xq_can {x : Nat} (hM : re_M st nd kd fa sb tc sg wd ww so cd ws ad gs xcd xws ycd yws ybs ycs xad yad) (hO : re_O st wk nx (ct 1) nm nb sy) (hD : ∀ x, x < wk → xdn (sy x) = dn x ∧ dn x ≤ 1) (hP : re_P wk so ws sy dn pp) (hc : ct 1 + wk < 2 ^ 31) (hx : x < wk) (hp1 : re_cn nd x (sy x) kd fa sg so pp gs 0 → post 1) (hp0 : ¬ re_cn nd x (sy x) kd fa sg so pp gs 0 → post 0) : wpX_can post (nI st, nI nd, nI bu, xad, nI nx, xga, xto, ar_N kd, ar_N sb, ar_N tc, ar_N sg, ar_N wd, ar_N fa, ar_N ww, gs, ar_O so, xcd, xws, ar_N rg, ar_N ce, ar_O nm, xon, xgu, ar_N xdn, ar_N xsn, ar_N xpr, ar_N xcl, xtr, ar_N ct, xlf, xrt, xlv) (nI (sy x)) := by
  have hst := hM.1
  have hsx := hO.1 x hx
  have main : ∀ d j n, j + d = nd → d < n → (re_cn nd x (sy x) kd fa sg so pp gs j → post 1) → (¬ re_cn nd x (sy x) kd fa sg so pp gs j → post 0) → wX_can_2 post (nI (sy x)) (nI st) (nI nd) (nI bu) xad (nI nx) xga xto (ar_N kd) (ar_N sb) (ar_N tc) (ar_N sg) (ar_N wd) (ar_N fa) (ar_N ww) gs (ar_O so) xcd xws (ar_N rg) (ar_N ce) (ar_O nm) xon xgu (ar_N xdn) (ar_N xsn) (ar_N xpr) (ar_N xcl) xtr (ar_N ct) xlf xrt xlv n (nI j) := by
    intro d
    induction d with
    | zero =>
      intro j n hj hn h1 h0
      cases n with
      | zero => omega
      | succ n =>
        rw [wX_can_2]
        exact br_t (nI_le (by omega) (by omega)) (h1 (fun m h2 h3 => absurd h3 (by omega)))
    | succ d ih =>
      intro j n hj hn h1 h0
      cases n with
      | zero => omega
      | succ n =>
        obtain ⟨b1, b2, b3, b4, -, -, -, b5, -⟩ := hM.2.1 j (by omega)
        have go : ((sg j = sy x → (kd j = 1 → re_kn so pp x (fa j) ∨ gs (fa j) ≠ 9) ∧ (kd j = 2 → re_kn so pp x 6))) → wX_can_2 post (nI (sy x)) (nI st) (nI nd) (nI bu) xad (nI nx) xga xto (ar_N kd) (ar_N sb) (ar_N tc) (ar_N sg) (ar_N wd) (ar_N fa) (ar_N ww) gs (ar_O so) xcd xws (ar_N rg) (ar_N ce) (ar_O nm) xon xgu (ar_N xdn) (ar_N xsn) (ar_N xpr) (ar_N xcl) xtr (ar_N ct) xlf xrt xlv n (nI (j + 1)) := by
          intro z
          refine ih (j + 1) n (by omega) (by omega) (fun q => h1 (fun m h2 h3 h4 => ?_)) (fun q => h0 (fun q2 => q (fun m h2 h3 h4 => q2 m (by omega) h3 h4)))
          rcases Nat.lt_or_ge j m with q2 | q2
          · exact q m q2 h3 h4
          · have e : m = j := by omega
            subst e; exact z h4
        rw [wX_can_2]
        refine br_f (nI_ge (by omega) (by omega)) ⟨vp_in_nI (by omega) (by omega), ?_⟩
        simp (disch := omega) only [forall_eq, ar_Nap, ar_Oap, nI_clamp, nI_leI, nI_ltI, nI_eq, ar_add, ar_mul, ar_in, ar_sub1, ar_ad1, ar_idec, ar_is, ar_ilt, ar_ile, ar_lti, ar_lei, ar_ieq, ar_ien, ar_nei, li_0, li_1, li_2, li_3, li_4, li_5, li_6, li_7, li_8, li_9, li_10, li_12, li_15, li_16, li_17, li_24, li_31, li_50, li_63, li_64, li_100, li_101, li_255, li_1000, li_65535, li_65536, ar_lit1]
        refine ⟨fun z => ⟨by omega, fun k1 => ?_, fun k1 => ⟨by omega, fun k2 => ?_, fun k2 => go (fun _ => ⟨fun q => absurd q k1, fun q => absurd q k2⟩)⟩⟩, fun z => go (fun q => absurd q z)⟩
        · have hf := b3 k1
          unfold wX_can_43
          refine ⟨vp_in_nI (by omega) (by omega), ?_⟩
          rw [nI_clamp (by omega)]
          refine br_t (by show nI (kd j) = 1; rw [k1]; rfl) ⟨vp_in_nI (by omega) (by omega), ?_⟩
          unfold wX_can_64
          refine xq_isKnown (t := fa j) hM hO hD hP hc hx (by omega) (fun q => ?_) (fun q => ?_)
          · refine br_f (by decide) (fun y ey => ?_)
            rw [ey, nI_1]
            exact go (fun _ => ⟨fun _ => Or.inl q, fun q2 => by omega⟩)
          · refine br_t rfl ?_
            refine br_f (by show ¬ nI (fa j) = nI 6; rw [nI_eq (by omega) (by omega)]; omega) ⟨vp_in_nI (n := fa j) hf (by omega), ?_⟩
            rw [show (ar_N fa j).toNatClampNeg = fa j from nI_clamp (by omega)]
            refine br_c (fun g => h0 (fun q2 => ?_)) (fun g y ey => ?_)
            · rcases (q2 j (Nat.le_refl _) (by omega) z).1 k1 with q3 | q3
              · exact q q3
              · exact q3 g
            · rw [ey, nI_1]
              exact go (fun _ => ⟨fun _ => Or.inr g, fun q2 => by omega⟩)
        · unfold wX_can_43
          refine ⟨vp_in_nI (by omega) (by omega), ?_⟩
          rw [nI_clamp (by omega)]
          refine br_f (by show ¬ nI (kd j) = nI 1; rw [nI_eq (by omega) (by omega)]; omega) ?_
          unfold wX_can_64
          refine xq_isKnown (t := 6) hM hO hD hP hc hx (by omega) (fun q => ?_) (fun q => ?_)
          · refine br_f (by decide) (fun y ey => ?_)
            rw [ey, nI_1]
            exact go (fun _ => ⟨fun q2 => absurd q2 k1, fun _ => q⟩)
          · exact br_t rfl (br_t rfl (h0 (fun q2 => q ((q2 j (Nat.le_refl _) (by omega) z).2 k2))))
  exact ⟨nd + 1, main nd 0 (nd + 1) (by omega) (by omega) hp1 hp0⟩
end
end
section
/-! what an instruction sees: the reference -/
/-- the handed one, counted -/
def re_h1 (q : Nat) : Nat := if q = 0 then 0 else 1
theorem re_h1S (i : Nat) : re_h1 (i + 1) = 1 := if_neg (by omega)
section
variable {st nd bu nx wk kc1 kc0 kc2 kc3 kc4 kc5 kc6 kc7 gi ad : Nat} {xad xga xto yad yts yga : Int32} {kd sb tc sg wd fa ww so rg ce nm xdn xsn xpr xcl ct nb sy vl pv pc gv dn wo pp yo wh wt wi tr tg cd ws : Nat → Nat} {gs xcd xws xon xgu xlf xrt xlv ybs ycs ywd ycd yws ygu yone ytwo ylv : Nat → Int32} {xtr : Nat → Int64}
variable {post : Int32 → Prop} {poss : Int32 → SY → Prop} {posu : SY → Prop}
/-- what is prepared by one, is prepared by those before it -/
theorem re_ppP {x t : Nat} (hO : re_O st wk nx (ct 1) nm nb sy) (hP : re_P wk so ws sy dn pp) (ht : t < 7) (h1 : x < wk) (h : pp (7 * x + t) = 1) : ∀ i, i ≤ x → pp (7 * i + t) = 1 := by
  intro i hi
  obtain ⟨z1, z2⟩ := (hP x h1 t ht).mp h
  refine (hP i (by omega) t ht).mpr ⟨z1, ?_⟩
  rcases Nat.lt_or_ge i x with q | q
  · have := re_lt hO q h1
    left
    unfold re_av at z2
    omega
  · have e : i = x := by omega
    subst e; exact z2
theorem yq_reg20 {r : Nat} (hr : r < 6) : ∀ i n, i ≤ 5 → i < n → (∀ j, j < i → pp (7 * j + r) = 1 ∧ yo (7 * j + r) ≤ 1) → poss (nI (if re_fd pp yo pc r 0 i = 0 then rg r else pv (7 * (re_fd pp yo pc r 0 i - 1) + r))) (nI st, nI nd, nI bu, yad, nI wk, nI nx, nI kc1, nI kc0, nI kc2, nI kc3, nI kc4, nI kc5, nI kc6, nI kc7, yts, nI (gi + re_h1 (re_fd pp yo pc r 0 i)), yga, ar_N ww, ar_N rg, ar_N ce, gs, ar_N kd, ar_N fa, ybs, ycs, ar_N sg, ywd, ar_O so, ycd, yws, ar_N nb, ar_N sy, ar_N vl, ar_N pv, ar_N pc, ygu, ar_N gv, ar_N dn, ar_N wo, ar_N pp, ar_N yo, ar_N wh, ar_N wt, ar_N wi, ar_N tr, ar_N tg, yone, ytwo, ylv) → wY_register_20 poss (nI r) (nI st) (nI nd) (nI bu) yad (nI wk) (nI nx) (nI kc1) (nI kc0) (nI kc2) (nI kc3) (nI kc4) (nI kc5) (nI kc6) (nI kc7) yts (nI gi) yga (ar_N ww) (ar_N rg) (ar_N ce) gs (ar_N kd) (ar_N fa) ybs ycs (ar_N sg) ywd (ar_O so) ycd yws (ar_N nb) (ar_N sy) (ar_N vl) (ar_N pv) (ar_N pc) ygu (ar_N gv) (ar_N dn) (ar_N wo) (ar_N pp) (ar_N yo) (ar_N wh) (ar_N wt) (ar_N wi) (ar_N tr) (ar_N tg) yone ytwo ylv n (ar_i i) := by
  intro i
  induction i with
  | zero =>
    intro n hi hn hj hp
    cases n with
    | zero => omega
    | succ n =>
      simp (disch := omega) only [wY_register_20, forall_eq, ar_Nap, ar_Oap, nI_clamp, nI_leI, nI_ltI, nI_eq, ar_add, ar_mul, ar_in, ar_sub1, ar_ad1, ar_idec, ar_is, ar_ilt, ar_ile, ar_lti, ar_lei, ar_ieq, ar_ien, ar_nei, li_0, li_1, li_2, li_3, li_4, li_5, li_6, li_7, li_8, li_9, li_10, li_12, li_15, li_16, li_17, li_24, li_31, li_50, li_63, li_64, li_100, li_101, li_255, li_1000, li_65535, li_65536, ar_lit1]
      exact ⟨fun _ => ⟨by omega, hp⟩, fun z => absurd (by omega) z⟩
  | succ i ih =>
    intro n hi hn hj hp
    cases n with
    | zero => omega
    | succ n =>
      obtain ⟨h1, h2⟩ := hj i (by omega)
      simp (disch := omega) only [wY_register_20, forall_eq, ar_Nap, ar_Oap, nI_clamp, nI_leI, nI_ltI, nI_eq, ar_add, ar_mul, ar_in, ar_sub1, ar_ad1, ar_idec, ar_is, ar_ilt, ar_ile, ar_lti, ar_lei, ar_ieq, ar_ien, ar_nei, li_0, li_1, li_2, li_3, li_4, li_5, li_6, li_7, li_8, li_9, li_10, li_12, li_15, li_16, li_17, li_24, li_31, li_50, li_63, li_64, li_100, li_101, li_255, li_1000, li_65535, li_65536, ar_lit1, h1]
      refine ⟨fun z => absurd z (by omega), fun _ => ⟨by omega, fun z => absurd z (by omega), fun _ => ⟨by omega, fun z => ?_, fun z => ⟨by omega, ?_⟩⟩⟩⟩
      · refine ih n (by omega) (by omega) (fun j q => hj j (by omega)) ?_
        rw [re_fdF (by omega)] at hp
        exact hp
      · rw [re_fdT ⟨h1, by omega, fun q => absurd q (by omega)⟩, if_neg (by omega), Nat.add_sub_cancel, re_h1S] at hp
        exact hp
theorem yq_cell21 {k : Nat} (hk : k < 16) : ∀ i n, i ≤ 5 → i < n → (∀ j, j < i → pp (7 * j + 6) = 1 ∧ yo (7 * j + 6) ≤ 1 ∧ pc j < 2 ^ 31) → poss (nI (if re_fd pp yo pc 6 k i = 0 then ce k else pv (7 * (re_fd pp yo pc 6 k i - 1) + 6))) (nI st, nI nd, nI bu, yad, nI wk, nI nx, nI kc1, nI kc0, nI kc2, nI kc3, nI kc4, nI kc5, nI kc6, nI kc7, yts, nI (gi + re_h1 (re_fd pp yo pc 6 k i)), yga, ar_N ww, ar_N rg, ar_N ce, gs, ar_N kd, ar_N fa, ybs, ycs, ar_N sg, ywd, ar_O so, ycd, yws, ar_N nb, ar_N sy, ar_N vl, ar_N pv, ar_N pc, ygu, ar_N gv, ar_N dn, ar_N wo, ar_N pp, ar_N yo, ar_N wh, ar_N wt, ar_N wi, ar_N tr, ar_N tg, yone, ytwo, ylv) → wY_cell_21 poss (nI k) (nI st) (nI nd) (nI bu) yad (nI wk) (nI nx) (nI kc1) (nI kc0) (nI kc2) (nI kc3) (nI kc4) (nI kc5) (nI kc6) (nI kc7) yts (nI gi) yga (ar_N ww) (ar_N rg) (ar_N ce) gs (ar_N kd) (ar_N fa) ybs ycs (ar_N sg) ywd (ar_O so) ycd yws (ar_N nb) (ar_N sy) (ar_N vl) (ar_N pv) (ar_N pc) ygu (ar_N gv) (ar_N dn) (ar_N wo) (ar_N pp) (ar_N yo) (ar_N wh) (ar_N wt) (ar_N wi) (ar_N tr) (ar_N tg) yone ytwo ylv n (ar_i i) := by
  intro i
  induction i with
  | zero =>
    intro n hi hn hj hp
    cases n with
    | zero => omega
    | succ n =>
      simp (disch := omega) only [wY_cell_21, forall_eq, ar_Nap, ar_Oap, nI_clamp, nI_leI, nI_ltI, nI_eq, ar_add, ar_mul, ar_in, ar_sub1, ar_ad1, ar_idec, ar_is, ar_ilt, ar_ile, ar_lti, ar_lei, ar_ieq, ar_ien, ar_nei, li_0, li_1, li_2, li_3, li_4, li_5, li_6, li_7, li_8, li_9, li_10, li_12, li_15, li_16, li_17, li_24, li_31, li_50, li_63, li_64, li_100, li_101, li_255, li_1000, li_65535, li_65536, ar_lit1]
      exact ⟨fun _ => ⟨by omega, hp⟩, fun z => absurd (by omega) z⟩
  | succ i ih =>
    intro n hi hn hj hp
    cases n with
    | zero => omega
    | succ n =>
      obtain ⟨h1, h2, h3⟩ := hj i (by omega)
      simp (disch := omega) only [wY_cell_21, forall_eq, ar_Nap, ar_Oap, nI_clamp, nI_leI, nI_ltI, nI_eq, ar_add, ar_mul, ar_in, ar_sub1, ar_ad1, ar_idec, ar_is, ar_ilt, ar_ile, ar_lti, ar_lei, ar_ieq, ar_ien, ar_nei, li_0, li_1, li_2, li_3, li_4, li_5, li_6, li_7, li_8, li_9, li_10, li_12, li_15, li_16, li_17, li_24, li_31, li_50, li_63, li_64, li_100, li_101, li_255, li_1000, li_65535, li_65536, ar_lit1, h1]
      refine ⟨fun z => absurd z (by omega), fun _ => ⟨by omega, fun z => absurd z (by omega), fun _ => ⟨by omega, fun z => ?_, fun z => ⟨by omega, fun z2 => ⟨by omega, ?_⟩, fun z2 => ?_⟩⟩⟩⟩
      · refine ih n (by omega) (by omega) (fun j q => hj j (by omega)) ?_
        rw [re_fdF (by omega)] at hp
        exact hp
      · rw [re_fdT ⟨h1, by omega, fun _ => z2⟩, if_neg (by omega), Nat.add_sub_cancel, re_h1S] at hp
        exact hp
      · refine ih n (by omega) (by omega) (fun j q => hj j (by omega)) ?_
        rw [re_fdF (fun q => z2 (q.2.2 rfl))] at hp
        exact hp
/-- a register for one: all before it have prepared it -/
theorem yq_registerK {x r : Nat} (hM : re_M st nd kd fa sb tc sg wd ww so cd ws ad gs xcd xws ycd yws ybs ycs xad yad) (hO : re_O st wk nx (ct 1) nm nb sy) (hQ : re_Q wk ww sy xon xpr xcl pv pc pp yo) (hx : x < wk) (hr : r < 6) (hk : so r ≠ 0 → ∀ j, j < x → pp (7 * j + r) = 1) (hp : poss (nI (re_lk so pp yo pc pv rg ce r 0 x)) (nI st, nI nd, nI bu, yad, nI wk, nI nx, nI kc1, nI kc0, nI kc2, nI kc3, nI kc4, nI kc5, nI kc6, nI kc7, yts, nI (gi + re_h1 (re_gv so pp yo pc r 0 x)), yga, ar_N ww, ar_N rg, ar_N ce, gs, ar_N kd, ar_N fa, ybs, ycs, ar_N sg, ywd, ar_O so, ycd, yws, ar_N nb, ar_N sy, ar_N vl, ar_N pv, ar_N pc, ygu, ar_N gv, ar_N dn, ar_N wo, ar_N pp, ar_N yo, ar_N wh, ar_N wt, ar_N wi, ar_N tr, ar_N tg, yone, ytwo, ylv)) : wpY_register poss (nI st, nI nd, nI bu, yad, nI wk, nI nx, nI kc1, nI kc0, nI kc2, nI kc3, nI kc4, nI kc5, nI kc6, nI kc7, yts, nI gi, yga, ar_N ww, ar_N rg, ar_N ce, gs, ar_N kd, ar_N fa, ybs, ycs, ar_N sg, ywd, ar_O so, ycd, yws, ar_N nb, ar_N sy, ar_N vl, ar_N pv, ar_N pc, ygu, ar_N gv, ar_N dn, ar_N wo, ar_N pp, ar_N yo, ar_N wh, ar_N wt, ar_N wi, ar_N tr, ar_N tg, yone, ytwo, ylv) (nI x) (nI r) := by
  have hst := hM.1
  have hso := (hM.2.2.2.1 r (by omega)).1
  have hwk := re_wk hO
  unfold re_lk re_gv at hp
  simp (disch := omega) only [wpY_register, ar_Oap, nI_clamp, li_0, li_1, li_2, li_3, li_4, li_5, li_6, li_7, li_8, li_9, li_10, li_12, li_15, li_16, li_17, li_24, li_31, li_50, li_63, li_64, li_100, li_101, li_255, li_1000, li_65535, li_65536, ar_lit1]
  refine ⟨vp_in_nI (by omega) (by omega), ?_⟩
  by_cases z : so r = 0
  · refine br_f (by rw [ar_lei (by omega) (by omega)]; omega) ⟨vp_in_nI hr (by omega), ?_⟩
    rw [if_pos z, if_pos rfl, if_neg (by omega)] at hp
    exact hp
  · refine br_t (by rw [ar_lei (by omega) (by omega)]; omega) ?_
    rw [if_neg z, if_neg (show ¬ r = 6 by omega)] at hp
    intro y ey
    rw [ey, ar_sub1]
    exact ⟨x + 1, yq_reg20 hr x (x + 1) (by omega) (by omega) (fun j hj => ⟨hk z j hj, (hQ.1 j (by omega) r (by omega)).2.1⟩) hp⟩
/-- a register for one: known -/
theorem yq_registerT {x r : Nat} (hM : re_M st nd kd fa sb tc sg wd ww so cd ws ad gs xcd xws ycd yws ybs ycs xad yad) (hO : re_O st wk nx (ct 1) nm nb sy) (hQ : re_Q wk ww sy xon xpr xcl pv pc pp yo) (hP : re_P wk so ws sy dn pp) (hx : x < wk) (hr : r < 6) (hk : re_kn so pp x r) (hp : poss (nI (re_lk so pp yo pc pv rg ce r 0 x)) (nI st, nI nd, nI bu, yad, nI wk, nI nx, nI kc1, nI kc0, nI kc2, nI kc3, nI kc4, nI kc5, nI kc6, nI kc7, yts, nI (gi + re_h1 (re_gv so pp yo pc r 0 x)), yga, ar_N ww, ar_N rg, ar_N ce, gs, ar_N kd, ar_N fa, ybs, ycs, ar_N sg, ywd, ar_O so, ycd, yws, ar_N nb, ar_N sy, ar_N vl, ar_N pv, ar_N pc, ygu, ar_N gv, ar_N dn, ar_N wo, ar_N pp, ar_N yo, ar_N wh, ar_N wt, ar_N wi, ar_N tr, ar_N tg, yone, ytwo, ylv)) : wpY_register poss (nI st, nI nd, nI bu, yad, nI wk, nI nx, nI kc1, nI kc0, nI kc2, nI kc3, nI kc4, nI kc5, nI kc6, nI kc7, yts, nI gi, yga, ar_N ww, ar_N rg, ar_N ce, gs, ar_N kd, ar_N fa, ybs, ycs, ar_N sg, ywd, ar_O so, ycd, yws, ar_N nb, ar_N sy, ar_N vl, ar_N pv, ar_N pc, ygu, ar_N gv, ar_N dn, ar_N wo, ar_N pp, ar_N yo, ar_N wh, ar_N wt, ar_N wi, ar_N tr, ar_N tg, yone, ytwo, ylv) (nI x) (nI r) := by
  refine yq_registerK hM hO hQ hx hr (fun z j hj => ?_) hp
  rcases hk with q | q | q
  · exact absurd q z
  · omega
  · exact re_ppP hO hP (by omega) (by omega) q j (by omega)
theorem yq_registerF {x r : Nat} (hM : re_M st nd kd fa sb tc sg wd ww so cd ws ad gs xcd xws ycd yws ybs ycs xad yad) (hO : re_O st wk nx (ct 1) nm nb sy) (hQ : re_Q wk ww sy xon xpr xcl pv pc pp yo) (hx : x < wk) (hr : r < 6) (hk : ¬ re_kn so pp x r) (hp : poss (-1) (nI st, nI nd, nI bu, yad, nI wk, nI nx, nI kc1, nI kc0, nI kc2, nI kc3, nI kc4, nI kc5, nI kc6, nI kc7, yts, nI gi, yga, ar_N ww, ar_N rg, ar_N ce, gs, ar_N kd, ar_N fa, ybs, ycs, ar_N sg, ywd, ar_O so, ycd, yws, ar_N nb, ar_N sy, ar_N vl, ar_N pv, ar_N pc, ygu, ar_N gv, ar_N dn, ar_N wo, ar_N pp, ar_N yo, ar_N wh, ar_N wt, ar_N wi, ar_N tr, ar_N tg, yone, ytwo, ylv)) : wpY_register poss (nI st, nI nd, nI bu, yad, nI wk, nI nx, nI kc1, nI kc0, nI kc2, nI kc3, nI kc4, nI kc5, nI kc6, nI kc7, yts, nI gi, yga, ar_N ww, ar_N rg, ar_N ce, gs, ar_N kd, ar_N fa, ybs, ycs, ar_N sg, ywd, ar_O so, ycd, yws, ar_N nb, ar_N sy, ar_N vl, ar_N pv, ar_N pc, ygu, ar_N gv, ar_N dn, ar_N wo, ar_N pp, ar_N yo, ar_N wh, ar_N wt, ar_N wi, ar_N tr, ar_N tg, yone, ytwo, ylv) (nI x) (nI r) := by
  have hst := hM.1
  have hso := (hM.2.2.2.1 r (by omega)).1
  have hwk := re_wk hO
  have z : ¬ so r = 0 := fun q => hk (Or.inl q)
  have z2 : ¬ x = 0 := fun q => hk (Or.inr (Or.inl q))
  have z3 : ¬ pp (7 * (x - 1) + r) = 1 := fun q => hk (Or.inr (Or.inr q))
  have z4 := (hQ.1 (x - 1) (by omega) r (by omega)).1
  simp (disch := omega) only [wpY_register, ar_Oap, nI_clamp, li_0, li_1, li_2, li_3, li_4, li_5, li_6, li_7, li_8, li_9, li_10, li_12, li_15, li_16, li_17, li_24, li_31, li_50, li_63, li_64, li_100, li_101, li_255, li_1000, li_65535, li_65536, ar_lit1]
  refine ⟨vp_in_nI (by omega) (by omega), ?_⟩
  refine br_t (by rw [ar_lei (by omega) (by omega)]; omega) ?_
  intro y ey
  obtain ⟨w, rfl⟩ : ∃ w, x = w + 1 := ⟨x - 1, by omega⟩
  rw [ey, ar_sub1]
  rw [Nat.add_sub_cancel] at z3 z4
  refine ⟨1, ?_⟩
  have z5 : pp (7 * w + r) = 0 := by omega
  simp (disch := omega) only [wY_register_20, forall_eq, ar_Nap, ar_Oap, nI_clamp, nI_leI, nI_ltI, nI_eq, ar_add, ar_mul, ar_in, ar_sub1, ar_ad1, ar_idec, ar_is, ar_ilt, ar_ile, ar_lti, ar_lei, ar_ieq, ar_ien, ar_nei, li_0, li_1, li_2, li_3, li_4, li_5, li_6, li_7, li_8, li_9, li_10, li_12, li_15, li_16, li_17, li_24, li_31, li_50, li_63, li_64, li_100, li_101, li_255, li_1000, li_65535, li_65536, ar_lit1, z5]
  exact ⟨fun q => absurd q (by omega), fun _ => ⟨by omega, fun _ => hp, fun q => absurd trivial q⟩⟩
theorem yq_cellT {x k : Nat} (hM : re_M st nd kd fa sb tc sg wd ww so cd ws ad gs xcd xws ycd yws ybs ycs xad yad) (hO : re_O st wk nx (ct 1) nm nb sy) (hQ : re_Q wk ww sy xon xpr xcl pv pc pp yo) (hP : re_P wk so ws sy dn pp) (hx : x < wk) (hk16 : k < 16) (hk : re_kn so pp x 6) (hp : poss (nI (re_lk so pp yo pc pv rg ce 6 k x)) (nI st, nI nd, nI bu, yad, nI wk, nI nx, nI kc1, nI kc0, nI kc2, nI kc3, nI kc4, nI kc5, nI kc6, nI kc7, yts, nI (gi + re_h1 (re_gv so pp yo pc 6 k x)), yga, ar_N ww, ar_N rg, ar_N ce, gs, ar_N kd, ar_N fa, ybs, ycs, ar_N sg, ywd, ar_O so, ycd, yws, ar_N nb, ar_N sy, ar_N vl, ar_N pv, ar_N pc, ygu, ar_N gv, ar_N dn, ar_N wo, ar_N pp, ar_N yo, ar_N wh, ar_N wt, ar_N wi, ar_N tr, ar_N tg, yone, ytwo, ylv)) : wpY_cell poss (nI st, nI nd, nI bu, yad, nI wk, nI nx, nI kc1, nI kc0, nI kc2, nI kc3, nI kc4, nI kc5, nI kc6, nI kc7, yts, nI gi, yga, ar_N ww, ar_N rg, ar_N ce, gs, ar_N kd, ar_N fa, ybs, ycs, ar_N sg, ywd, ar_O so, ycd, yws, ar_N nb, ar_N sy, ar_N vl, ar_N pv, ar_N pc, ygu, ar_N gv, ar_N dn, ar_N wo, ar_N pp, ar_N yo, ar_N wh, ar_N wt, ar_N wi, ar_N tr, ar_N tg, yone, ytwo, ylv) (nI x) (nI k) := by
  have hst := hM.1
  have hso := (hM.2.2.2.1 6 (by omega)).1
  have hwk := re_wk hO
  unfold re_lk re_gv at hp
  simp (disch := omega) only [wpY_cell, ar_Oap, nI_clamp, li_0, li_1, li_2, li_3, li_4, li_5, li_6, li_7, li_8, li_9, li_10, li_12, li_15, li_16, li_17, li_24, li_31, li_50, li_63, li_64, li_100, li_101, li_255, li_1000, li_65535, li_65536, ar_lit1]
  by_cases z : so 6 = 0
  · refine br_f (by rw [ar_lei (by omega) (by omega)]; omega) ⟨vp_in_nI hk16 (by omega), ?_⟩
    rw [if_pos z, if_pos rfl, if_pos rfl] at hp
    exact hp
  · refine br_t (by rw [ar_lei (by omega) (by omega)]; omega) ?_
    rw [if_neg z, if_pos (show 6 = 6 from rfl)] at hp
    intro y ey
    rw [ey, ar_sub1]
    have hpp : ∀ j, j < x → pp (7 * j + 6) = 1 := by
      intro j hj
      rcases hk with q | q | q
      · exact absurd q z
      · omega
      · exact re_ppP hO hP (by omega) (by omega) q j (by omega)
    refine ⟨x + 1, yq_cell21 hk16 x (x + 1) (by omega) (by omega) (fun j hj => ⟨hpp j hj, (hQ.1 j (by omega) 6 (by omega)).2.1, ?_⟩) hp⟩
    have := (hQ.2.1 j (by omega) (hpp j hj)).2
    omega
theorem yq_cellF {x k : Nat} (hM : re_M st nd kd fa sb tc sg wd ww so cd ws ad gs xcd xws ycd yws ybs ycs xad yad) (hO : re_O st wk nx (ct 1) nm nb sy) (hQ : re_Q wk ww sy xon xpr xcl pv pc pp yo) (hx : x < wk) (hk16 : k < 16) (hk : ¬ re_kn so pp x 6) (hp : poss (-1) (nI st, nI nd, nI bu, yad, nI wk, nI nx, nI kc1, nI kc0, nI kc2, nI kc3, nI kc4, nI kc5, nI kc6, nI kc7, yts, nI gi, yga, ar_N ww, ar_N rg, ar_N ce, gs, ar_N kd, ar_N fa, ybs, ycs, ar_N sg, ywd, ar_O so, ycd, yws, ar_N nb, ar_N sy, ar_N vl, ar_N pv, ar_N pc, ygu, ar_N gv, ar_N dn, ar_N wo, ar_N pp, ar_N yo, ar_N wh, ar_N wt, ar_N wi, ar_N tr, ar_N tg, yone, ytwo, ylv)) : wpY_cell poss (nI st, nI nd, nI bu, yad, nI wk, nI nx, nI kc1, nI kc0, nI kc2, nI kc3, nI kc4, nI kc5, nI kc6, nI kc7, yts, nI gi, yga, ar_N ww, ar_N rg, ar_N ce, gs, ar_N kd, ar_N fa, ybs, ycs, ar_N sg, ywd, ar_O so, ycd, yws, ar_N nb, ar_N sy, ar_N vl, ar_N pv, ar_N pc, ygu, ar_N gv, ar_N dn, ar_N wo, ar_N pp, ar_N yo, ar_N wh, ar_N wt, ar_N wi, ar_N tr, ar_N tg, yone, ytwo, ylv) (nI x) (nI k) := by
  have hst := hM.1
  have hso := (hM.2.2.2.1 6 (by omega)).1
  have hwk := re_wk hO
  have z : ¬ so 6 = 0 := fun q => hk (Or.inl q)
  have z2 : ¬ x = 0 := fun q => hk (Or.inr (Or.inl q))
  have z3 : ¬ pp (7 * (x - 1) + 6) = 1 := fun q => hk (Or.inr (Or.inr q))
  have z4 := (hQ.1 (x - 1) (by omega) 6 (by omega)).1
  simp (disch := omega) only [wpY_cell, ar_Oap, nI_clamp, li_0, li_1, li_2, li_3, li_4, li_5, li_6, li_7, li_8, li_9, li_10, li_12, li_15, li_16, li_17, li_24, li_31, li_50, li_63, li_64, li_100, li_101, li_255, li_1000, li_65535, li_65536, ar_lit1]
  refine br_t (by rw [ar_lei (by omega) (by omega)]; omega) ?_
  intro y ey
  obtain ⟨w, rfl⟩ : ∃ w, x = w + 1 := ⟨x - 1, by omega⟩
  rw [ey, ar_sub1]
  rw [Nat.add_sub_cancel] at z3 z4
  refine ⟨1, ?_⟩
  have z5 : pp (7 * w + 6) = 0 := by omega
  simp (disch := omega) only [wY_cell_21, forall_eq, ar_Nap, ar_Oap, nI_clamp, nI_leI, nI_ltI, nI_eq, ar_add, ar_mul, ar_in, ar_sub1, ar_ad1, ar_idec, ar_is, ar_ilt, ar_ile, ar_lti, ar_lei, ar_ieq, ar_ien, ar_nei, li_0, li_1, li_2, li_3, li_4, li_5, li_6, li_7, li_8, li_9, li_10, li_12, li_15, li_16, li_17, li_24, li_31, li_50, li_63, li_64, li_100, li_101, li_255, li_1000, li_65535, li_65536, ar_lit1, z5]
  exact ⟨fun q => absurd q (by omega), fun _ => ⟨by omega, fun _ => hp, fun q => absurd trivial q⟩⟩
theorem yq_readBy {x r n0 : Nat} (hd : nd ≤ 24) (hs : x < 5) (h24 : n0 < nd) (hr : r < 2 ^ 31) (hk : ∀ j, j ≤ n0 → kd j < 2 ^ 31 ∧ fa j < 2 ^ 31) (h1 : kd n0 = 1) (h2 : fa n0 = r) (hl : ∀ j, j < n0 → ¬ (kd j = 1 ∧ fa j = r)) (hp : post (nI (vl (24 * x + n0)))) : wpY_readBy post (nI st, nI nd, nI bu, yad, nI wk, nI nx, nI kc1, nI kc0, nI kc2, nI kc3, nI kc4, nI kc5, nI kc6, nI kc7, yts, nI gi, yga, ar_N ww, ar_N rg, ar_N ce, gs, ar_N kd, ar_N fa, ybs, ycs, ar_N sg, ywd, ar_O so, ycd, yws, ar_N nb, ar_N sy, ar_N vl, ar_N pv, ar_N pc, ygu, ar_N gv, ar_N dn, ar_N wo, ar_N pp, ar_N yo, ar_N wh, ar_N wt, ar_N wi, ar_N tr, ar_N tg, yone, ytwo, ylv) (nI x) (nI r) := by
  have main : ∀ d j n, j + d = n0 → d < n → wY_readBy_2 post (nI x) (nI r) (nI st) (nI nd) (nI bu) yad (nI wk) (nI nx) (nI kc1) (nI kc0) (nI kc2) (nI kc3) (nI kc4) (nI kc5) (nI kc6) (nI kc7) yts (nI gi) yga (ar_N ww) (ar_N rg) (ar_N ce) gs (ar_N kd) (ar_N fa) ybs ycs (ar_N sg) ywd (ar_O so) ycd yws (ar_N nb) (ar_N sy) (ar_N vl) (ar_N pv) (ar_N pc) ygu (ar_N gv) (ar_N dn) (ar_N wo) (ar_N pp) (ar_N yo) (ar_N wh) (ar_N wt) (ar_N wi) (ar_N tr) (ar_N tg) yone ytwo ylv n (nI j) := by
    intro d
    induction d with
    | zero =>
      intro j n hj hn
      have e : j = n0 := by omega
      subst e
      have hb := hk j (by omega)
      cases n with
      | zero => omega
      | succ n =>
        simp (disch := omega) only [wY_readBy_2, forall_eq, ar_Nap, ar_Oap, nI_clamp, nI_leI, nI_ltI, nI_eq, ar_add, ar_mul, ar_in, ar_sub1, ar_ad1, ar_idec, ar_is, ar_ilt, ar_ile, ar_lti, ar_lei, ar_ieq, ar_ien, ar_nei, li_0, li_1, li_2, li_3, li_4, li_5, li_6, li_7, li_8, li_9, li_10, li_12, li_15, li_16, li_17, li_24, li_31, li_50, li_63, li_64, li_100, li_101, li_255, li_1000, li_65535, li_65536, ar_lit1]
        exact ⟨fun z => absurd z (by omega), fun _ => ⟨by omega, fun _ => ⟨by omega, fun _ => ⟨by omega, hp⟩, fun z => absurd h2 z⟩, fun z => absurd h1 z⟩⟩
    | succ d ih =>
      intro j n hj hn
      have hb := hk j (by omega)
      cases n with
      | zero => omega
      | succ n =>
        simp (disch := omega) only [wY_readBy_2, forall_eq, ar_Nap, ar_Oap, nI_clamp, nI_leI, nI_ltI, nI_eq, ar_add, ar_mul, ar_in, ar_sub1, ar_ad1, ar_idec, ar_is, ar_ilt, ar_ile, ar_lti, ar_lei, ar_ieq, ar_ien, ar_nei, li_0, li_1, li_2, li_3, li_4, li_5, li_6, li_7, li_8, li_9, li_10, li_12, li_15, li_16, li_17, li_24, li_31, li_50, li_63, li_64, li_100, li_101, li_255, li_1000, li_65535, li_65536, ar_lit1]
        exact ⟨fun z => absurd z (by omega), fun _ => ⟨by omega, fun z1 => ⟨by omega, fun z2 => absurd ⟨z1, z2⟩ (hl j (by omega)), fun z => ih (j + 1) n (by omega) (by omega)⟩, fun z => ih (j + 1) n (by omega) (by omega)⟩⟩
  exact ⟨n0 + 1, main n0 0 (n0 + 1) (by omega) (by omega)⟩
end
end
section
/-! what a node comes to: pure -/
def re_rk (k a b c w : Nat) : Nat := if k = 3 then (a + b) % 2 ^ w else if k = 4 then (a + 65536 - b) % 2 ^ w else if k = 5 then a &&& b else if k = 6 then a ^^^ b else if k = 7 then (if a < b then 1 else 0) else if k = 8 then (if a = b then 1 else 0) else if a = 0 then c else b
def re_vl (kd fa sb tc wd RD LD V : Nat → Nat) (n : Nat) : Nat := if kd n = 0 then fa n else if kd n = 1 then RD (fa n) else if kd n = 2 then LD (V (fa n) % 16) else re_rk (kd n) (V (fa n)) (V (sb n)) (V (tc n)) (wd n)
/-- V holds the values of one in stage s -/
def re_HV (nd s : Nat) (kd fa sb tc sg wd RD LD old V : Nat → Nat) : Prop := ∀ m, m < nd → (sg m < s → V m = old m) ∧ (sg m = s → V m = re_vl kd fa sb tc wd RD LD V m)
theorem re_rkC {k a b c c' w : Nat} (h : k = 9 → c = c') (hk3 : 3 ≤ k) (hk : k ≤ 9) : re_rk k a b c w = re_rk k a b c' w := by
  by_cases h9 : k = 9
  · rw [h h9]
  · unfold re_rk
    have : k = 3 ∨ k = 4 ∨ k = 5 ∨ k = 6 ∨ k = 7 ∨ k = 8 := by omega
    rcases this with q | q | q | q | q | q <;> subst q <;> rfl
section
variable {st nd bu nx wk kc1 kc0 kc2 kc3 kc4 kc5 kc6 kc7 gi ad : Nat} {xad xga xto yad yts yga : Int32} {kd sb tc sg wd fa ww so rg ce nm xdn xsn xpr xcl ct nb sy vl pv pc gv dn wo pp yo wh wt wi tr tg cd ws : Nat → Nat} {gs xcd xws xon xgu xlf xrt xlv ybs ycs ywd ycd yws ygu yone ytwo ylv : Nat → Int32} {xtr : Nat → Int64}
variable {RD LD old V V' : Nat → Nat} {s : Nat}
theorem re_vlC {m : Nat} (hM : re_M st nd kd fa sb tc sg wd ww so cd ws ad gs xcd xws ycd yws ybs ycs xad yad) (hm : m < nd) (h : ∀ i, i < m → V i = V' i) : re_vl kd fa sb tc wd RD LD V m = re_vl kd fa sb tc wd RD LD V' m := by
  obtain ⟨b1, b2, b3, b4, b5, b6, -⟩ := hM.2.1 m hm
  unfold re_vl
  by_cases k0 : kd m = 0
  · rw [if_pos k0, if_pos k0]
  rw [if_neg k0, if_neg k0]
  by_cases k1 : kd m = 1
  · rw [if_pos k1, if_pos k1]
  rw [if_neg k1, if_neg k1, h _ (b4 (by omega))]
  by_cases k2 : kd m = 2
  · rw [if_pos k2, if_pos k2]
  rw [if_neg k2, if_neg k2, h _ (b5 (by omega)).1]
  exact re_rkC (fun q => h _ (b6 q).1) (by omega) b1
def re_bd (s : Nat) (kd fa sb tc sg wd RD LD old : Nat → Nat) : Nat → Nat → Nat
  | 0 => old
  | n + 1 => if sg n = s then ar_u (re_bd s kd fa sb tc sg wd RD LD old n) n (re_vl kd fa sb tc wd RD LD (re_bd s kd fa sb tc sg wd RD LD old n) n) else re_bd s kd fa sb tc sg wd RD LD old n
theorem re_bdS {n i : Nat} (h : i ≠ n) : re_bd s kd fa sb tc sg wd RD LD old (n + 1) i = re_bd s kd fa sb tc sg wd RD LD old n i := by
  show (if sg n = s then _ else _ : Nat → Nat) i = _
  by_cases z : sg n = s
  · rw [if_pos z, ar_un h]
  · rw [if_neg z]
theorem re_HVx (hM : re_M st nd kd fa sb tc sg wd ww so cd ws ad gs xcd xws ycd yws ybs ycs xad yad) (s : Nat) (RD LD old : Nat → Nat) : ∃ V, re_HV nd s kd fa sb tc sg wd RD LD old V := by
  have main : ∀ n, n ≤ nd → (∀ m, n ≤ m → re_bd s kd fa sb tc sg wd RD LD old n m = old m) ∧ ∀ m, m < n → (sg m < s → re_bd s kd fa sb tc sg wd RD LD old n m = old m) ∧ (sg m = s → re_bd s kd fa sb tc sg wd RD LD old n m = re_vl kd fa sb tc wd RD LD (re_bd s kd fa sb tc sg wd RD LD old n) m) := by
    intro n
    induction n with
    | zero => intro _; exact ⟨fun m _ => rfl, fun m h => absurd h (by omega)⟩
    | succ n ih =>
      intro hn
      obtain ⟨i1, i2⟩ := ih (by omega)
      refine ⟨fun m h => ?_, fun m h => ⟨fun z => ?_, fun z => ?_⟩⟩
      · rw [re_bdS (by omega)]; exact i1 m (by omega)
      · by_cases e : m = n
        · subst e
          show (if sg m = s then _ else _ : Nat → Nat) m = _
          rw [if_neg (by omega)]; exact i1 m (by omega)
        · rw [re_bdS e]; exact (i2 m (by omega)).1 z
      · rw [re_vlC (V := re_bd s kd fa sb tc sg wd RD LD old (n + 1)) (V' := re_bd s kd fa sb tc sg wd RD LD old n) hM (by omega) (fun i hi => re_bdS (by omega))]
        by_cases e : m = n
        · subst e
          show (if sg m = s then _ else _ : Nat → Nat) m = _
          rw [if_pos z, ar_us]
        · rw [re_bdS e]; exact (i2 m (by omega)).2 z
  exact ⟨re_bd s kd fa sb tc sg wd RD LD old nd, (main nd (Nat.le_refl _)).2⟩
theorem re_pw {a w w' : Nat} (h : a < 2 ^ w) (hw : w ≤ w') : a < 2 ^ w' := Nat.lt_of_lt_of_le h (Nat.pow_le_pow_right (by decide) hw)
theorem re_vb (hM : re_M st nd kd fa sb tc sg wd ww so cd ws ad gs xcd xws ycd yws ybs ycs xad yad) (hF : re_F st nd kd fa sb tc sg wd ww so cd ws ad gs) (hV : re_HV nd s kd fa sb tc sg wd RD LD old V) (ho : ∀ m, m < nd → sg m < s → old m < 2 ^ wd m) (hR : ∀ n, n < nd → kd n = 1 → sg n = s → RD (fa n) < 2 ^ ww (fa n)) (hL : ∀ k, k < 16 → LD k < 256) : ∀ m, m < nd → sg m ≤ s → V m < 2 ^ wd m := by
  intro m
  induction m using Nat.strongRecOn with
  | ind m ih =>
    intro hm hs
    by_cases z : sg m < s
    · rw [(hV m hm).1 z]; exact ho m hm z
    have z2 : sg m = s := by omega
    rw [(hV m hm).2 z2]
    obtain ⟨b1, b2, b3, b4, b5, b6, -, -, b7⟩ := hM.2.1 m hm
    obtain ⟨-, f2, f3, f9⟩ := hF.1 m hm
    unfold re_vl
    rw [b7]
    unfold re_w
    by_cases k0 : kd m = 0
    · rw [if_pos k0, if_pos k0]; exact re_blp _
    rw [if_neg k0, if_neg k0]
    by_cases k1 : kd m = 1
    · rw [if_pos k1, if_pos k1]; exact hR m hm k1 z2
    rw [if_neg k1, if_neg k1]
    by_cases k2 : kd m = 2
    · rw [if_pos k2, if_pos k2]; exact hL _ (Nat.mod_lt _ (by decide))
    rw [if_neg k2, if_neg k2]
    have a4 := b4 (by omega)
    have a5 := (b5 (by omega)).1
    have ha := ih (fa m) a4 (by omega) (by have := f2 (by omega); omega)
    have hb := ih (sb m) a5 (by omega) (by have := f3 (by omega); omega)
    have key : ∀ w, wd (fa m) ≤ w → wd (sb m) ≤ w → V (fa m) < 2 ^ w ∧ V (sb m) < 2 ^ w := fun w h1 h2 => ⟨re_pw ha h1, re_pw hb h2⟩
    by_cases k5 : kd m = 5
    · rw [if_pos k5, k5]
      show V (fa m) &&& V (sb m) < _
      by_cases q : wd (fa m) < wd (sb m)
      · rw [if_pos q]; exact Nat.lt_of_le_of_lt Nat.and_le_left ha
      · rw [if_neg q]; exact Nat.lt_of_le_of_lt Nat.and_le_right hb
    rw [if_neg k5]
    by_cases k7 : kd m = 7 ∨ kd m = 8
    · rw [if_pos k7]
      rcases k7 with q | q <;> rw [q]
      · show (if V (fa m) < V (sb m) then 1 else 0) < 2
        split <;> decide
      · show (if V (fa m) = V (sb m) then 1 else 0) < 2
        split <;> decide
    rw [if_neg k7]
    by_cases k9 : kd m = 9
    · rw [if_pos k9]
      have a6 := (b6 k9).1
      have hc := ih (tc m) a6 (by omega) (by have := f9 k9; omega)
      rw [k9]
      show (if V (fa m) = 0 then V (tc m) else V (sb m)) < _
      have e : ∀ w, wd (sb m) ≤ w → wd (tc m) ≤ w → (if V (fa m) = 0 then V (tc m) else V (sb m)) < 2 ^ w := by
        intro w h1 h2
        split
        · exact re_pw hc h2
        · exact re_pw hb h1
      by_cases q : wd (sb m) ≤ wd (tc m)
      · rw [if_pos q]; exact e _ q (Nat.le_refl _)
      · rw [if_neg q]; exact e _ (Nat.le_refl _) (by omega)
    rw [if_neg k9]
    have e : ∀ w, wd (fa m) ≤ w → wd (sb m) ≤ w → re_rk (kd m) (V (fa m)) (V (sb m)) (V (tc m)) w < 2 ^ w := by
      intro w h1 h2
      obtain ⟨q1, q2⟩ := key w h1 h2
      have : kd m = 3 ∨ kd m = 4 ∨ kd m = 6 := by omega
      rcases this with q | q | q <;> rw [q]
      · exact Nat.mod_lt _ (Nat.two_pow_pos _)
      · exact Nat.mod_lt _ (Nat.two_pow_pos _)
      · exact Nat.xor_lt_two_pow q1 q2
    by_cases q : wd (fa m) ≤ wd (sb m)
    · rw [if_pos q]
      exact e _ q (Nat.le_refl _)
    · rw [if_neg q]
      exact e _ (Nat.le_refl _) (by omega)
end
end
section
/-! reading and reckoning: the component -/
theorem ar_self (f : Nat → Nat) (k : Nat) : ar_u f k (f k) = f := by
  funext j
  unfold ar_u
  by_cases h : j = k
  · rw [if_pos h, h]
  · rw [if_neg h]
theorem ar_self0 (f : Nat → Nat) (k : Nat) : ar_u f k (f k + 0) = f := ar_self f k
theorem ar_uu (f : Nat → Nat) (k a b : Nat) : ar_u (ar_u f k a) k b = ar_u f k b := by
  funext j
  unfold ar_u
  by_cases h : j = k
  · rw [if_pos h, if_pos h]
  · rw [if_neg h, if_neg h, if_neg h]
theorem ar_upself (f : Nat → Int32) (k : Nat) : upd f k (f k) = f := by
  funext j
  unfold upd
  by_cases h : j = k
  · rw [if_pos h, h]
  · rw [if_neg h]
theorem ar_upself0 (f : Nat → Int32) (k : Nat) : upd f k (f k ||| nI 0) = f := by rw [ar_or0]; exact ar_upself f k
theorem ar_upup (f : Nat → Int32) (k : Nat) (a b : Int32) : upd (upd f k a) k b = upd f k b := by
  funext j
  unfold upd
  by_cases h : j = k
  · rw [if_pos h, if_pos h]
  · rw [if_neg h, if_neg h, if_neg h]
/-- what is guessed of a register -/
def re_gr (x : Nat) (vl ww : Nat → Nat) (gs : Nat → Int32) (n0 : Nat → Nat) (r : Nat) : Nat := (nI (vl (24 * (x - 1) + n0 r)) + gs r).toBitVec.toNat % 2 ^ ww r
/-- what a register is for one, known or guessed -/
def re_RD (x : Nat) (so pp yo pc pv rg ce vl ww : Nat → Nat) (gs : Nat → Int32) (n0 : Nat → Nat) (r : Nat) : Nat := if re_kn so pp x r then re_lk so pp yo pc pv rg ce r 0 x else re_gr x vl ww gs n0 r
/-- the nodes' reads -/
def re_N0 (nd : Nat) (kd fa : Nat → Nat) (gs : Nat → Int32) (n0 : Nat → Nat) : Prop := ∀ r, r < 6 → gs r ≠ 9 → n0 r < nd ∧ kd (n0 r) = 1 ∧ fa (n0 r) = r ∧ ∀ j, j < n0 r → ¬ (kd j = 1 ∧ fa j = r)
section
variable {st nd bu nx wk kc1 kc0 kc2 kc3 kc4 kc5 kc6 kc7 gi ad : Nat} {xad xga xto yad yts yga : Int32} {kd sb tc sg wd fa ww so rg ce nm xdn xsn xpr xcl ct nb sy vl pv pc gv dn wo pp yo wh wt wi tr tg cd ws : Nat → Nat} {gs xcd xws xon xgu xlf xrt xlv ybs ycs ywd ycd yws ygu yone ytwo ylv : Nat → Int32} {xtr : Nat → Int64}
variable {post : Int32 → Prop} {poss : Int32 → SX → Prop} {posu : SX → Prop} {n0 : Nat → Nat}
theorem re_N0x (hF : re_F st nd kd fa sb tc sg wd ww so cd ws ad gs) : ∃ n0, re_N0 nd kd fa gs n0 := by
  have h : ∀ r : Nat, ∃ n : Nat, r < 6 → gs r ≠ 9 → n < nd ∧ kd n = 1 ∧ fa n = r ∧ ∀ j, j < n → ¬ (kd j = 1 ∧ fa j = r) := by
    intro r
    by_cases z : r < 6 ∧ gs r ≠ 9
    · obtain ⟨-, ⟨n, h1, h2, h3⟩, -⟩ := hF.2.2 r z.1 z.2
      obtain ⟨k, ⟨k1, k2, k3⟩, hk⟩ := pk_least (fun n => n < nd ∧ kd n = 1 ∧ fa n = r) ⟨n, h1, h2, h3⟩
      exact ⟨k, fun _ _ => ⟨k1, k2, k3, fun j hj q => hk j hj ⟨by omega, q.1, q.2⟩⟩⟩
    · exact ⟨0, fun h1 h2 => absurd ⟨h1, h2⟩ z⟩
  exact Classical.skolem.mp h
theorem xq_readT {x r : Nat} (hM : re_M st nd kd fa sb tc sg wd ww so cd ws ad gs xcd xws ycd yws ybs ycs xad yad) (hO : re_O st wk nx (ct 1) nm nb sy) (hD : ∀ x, x < wk → xdn (sy x) = dn x ∧ dn x ≤ 1) (hQ : re_Q wk ww sy xon xpr xcl pv pc pp yo) (hP : re_P wk so ws sy dn pp) (hc : ct 1 + wk < 2 ^ 31) (hx : x < wk) (hr : r < 6) (hk : re_kn so pp x r) (hp : poss (nI (re_lk so pp yo pc pv rg ce r 0 x)) (nI st, nI nd, nI bu, xad, nI nx, xga, xto, ar_N kd, ar_N sb, ar_N tc, ar_N sg, ar_N wd, ar_N fa, ar_N ww, gs, ar_O so, xcd, xws, ar_N rg, ar_N ce, ar_O nm, xon, xgu, ar_N xdn, ar_N xsn, ar_N xpr, ar_N xcl, xtr, ar_N (ar_u ct 3 (ct 3 + re_h1 (re_gv so pp yo pc r 0 x))), xlf, xrt, xlv)) : wpX_read poss (nI st, nI nd, nI bu, xad, nI nx, xga, xto, ar_N kd, ar_N sb, ar_N tc, ar_N sg, ar_N wd, ar_N fa, ar_N ww, gs, ar_O so, xcd, xws, ar_N rg, ar_N ce, ar_O nm, xon, xgu, ar_N xdn, ar_N xsn, ar_N xpr, ar_N xcl, xtr, ar_N ct, xlf, xrt, xlv) (nI (sy x)) (nI r) := by
  have hst := hM.1
  unfold wpX_read
  refine xq_isKnown hM hO hD hP hc hx (by omega) (fun _ => ?_) (fun q => absurd hk q)
  refine br_f (by decide) ?_
  refine xq_giver (k := 0) hM hO hQ hc hx (by omega) (by omega) ?_
  have hg := re_gvP so pp yo pc r 0 x
  obtain ⟨h1, h2⟩ := re_olst hO (q := re_gv so pp yo pc r 0 x) (by omega)
  unfold re_h1 at hp
  refine pk_le st (re_ol st sy (re_gv so pp yo pc r 0 x)) (fun z => ?_) (fun z => ?_)
  · rw [if_pos (h1.mp z), ar_self0] at hp
    unfold wX_read_35
    exact xq_look (k := 0) hM hO hQ hc hx (by omega) (by omega) hp
  · rw [if_neg (fun q => by have := h1.mpr q; omega)] at hp
    intro y ey
    rw [ey]
    unfold wX_read_35
    have e : upd (ar_N ct) 3 (ar_N ct 3 + 1) = ar_N (ar_u ct 3 (ct 3 + 1)) := by
      rw [ar_Nap, nI_1, ar_uN]
    rw [e]
    have e1 : (ar_u ct 3 (ct 3 + 1)) 1 = ct 1 := ar_un (by decide)
    exact xq_look (ct := ar_u ct 3 (ct 3 + 1)) (k := 0) hM (by rw [e1]; exact hO) hQ (by rw [e1]; exact hc) hx (by omega) (by omega) hp
theorem xq_readF {x r : Nat} (hM : re_M st nd kd fa sb tc sg wd ww so cd ws ad gs xcd xws ycd yws ybs ycs xad yad) (hO : re_O st wk nx (ct 1) nm nb sy) (hD : ∀ x, x < wk → xdn (sy x) = dn x ∧ dn x ≤ 1) (hP : re_P wk so ws sy dn pp) (hN : re_N0 nd kd fa gs n0) (hc : ct 1 + wk < 2 ^ 31) (hx : x < wk) (hr : r < 6) (hk : ¬ re_kn so pp x r) (hg : gs r ≠ 9) (he : xsn (24 * sy (x - 1) + n0 r) = vl (24 * (x - 1) + n0 r)) (hp : poss (nI (re_gr x vl ww gs n0 r)) (nI st, nI nd, nI bu, xad, nI nx, xga, xto, ar_N kd, ar_N sb, ar_N tc, ar_N sg, ar_N wd, ar_N fa, ar_N ww, gs, ar_O so, xcd, xws, ar_N rg, ar_N ce, ar_O nm, xon, upd xgu (sy x) (xgu (sy x) ||| (nI 1 <<< (nI r &&& nI 31))), ar_N xdn, ar_N xsn, ar_N xpr, ar_N xcl, xtr, ar_N ct, xlf, xrt, xlv)) : wpX_read poss (nI st, nI nd, nI bu, xad, nI nx, xga, xto, ar_N kd, ar_N sb, ar_N tc, ar_N sg, ar_N wd, ar_N fa, ar_N ww, gs, ar_O so, xcd, xws, ar_N rg, ar_N ce, ar_O nm, xon, xgu, ar_N xdn, ar_N xsn, ar_N xpr, ar_N xcl, xtr, ar_N ct, xlf, xrt, xlv) (nI (sy x)) (nI r) := by
  have hst := hM.1
  have hs := hO.1 x hx
  have z2 : ¬ x = 0 := fun q => hk (Or.inr (Or.inl q))
  have hs1 := hO.1 (x - 1) (by omega)
  obtain ⟨n1, n2, n3, n4⟩ := hN r hr hg
  unfold wpX_read
  refine xq_isKnown hM hO hD hP hc hx (by omega) (fun q => absurd q hk) (fun _ => ?_)
  refine br_t rfl ⟨vp_in_nI (by omega) (by omega), vp_in_nI (by omega) (by omega), ?_⟩
  rw [nI_clamp (by omega)]
  intro y ey
  rw [ey]
  refine xq_older hO hst.2.1 hc hx ?_
  unfold re_ol
  rw [if_neg z2]
  refine xq_readOf (by omega) (by omega) (by omega) (fun j hj => ?_) n2 n3 n4 ?_
  · obtain ⟨b1, b2, b3, b4, -⟩ := hM.2.1 j (by omega)
    omega
  · refine ⟨vp_in_nI hr (by omega), vp_in_nI hr (by omega), ?_⟩
    rw [he, nI_clamp (by omega)]
    unfold wpX_cut
    have e := ar_cut (nI (vl (24 * (x - 1) + n0 r)) + gs r) (hM.2.2.1 r hr).2.1
    rw [show (nI (vl (24 * (x - 1) + n0 r)) + gs r) &&& (((1 : Int32) <<< (ar_N ww r &&& 31)) - 1) = nI (re_gr x vl ww gs n0 r) from e]
    exact hp
theorem xq_load {x k : Nat} (hM : re_M st nd kd fa sb tc sg wd ww so cd ws ad gs xcd xws ycd yws ybs ycs xad yad) (hO : re_O st wk nx (ct 1) nm nb sy) (hQ : re_Q wk ww sy xon xpr xcl pv pc pp yo) (hc : ct 1 + wk < 2 ^ 31) (hx : x < wk) (hk : k < 16) (hp : poss (nI (re_lk so pp yo pc pv rg ce 6 k x)) (nI st, nI nd, nI bu, xad, nI nx, xga, xto, ar_N kd, ar_N sb, ar_N tc, ar_N sg, ar_N wd, ar_N fa, ar_N ww, gs, ar_O so, xcd, xws, ar_N rg, ar_N ce, ar_O nm, xon, xgu, ar_N xdn, ar_N xsn, ar_N xpr, ar_N xcl, xtr, ar_N (ar_u ct 3 (ct 3 + re_h1 (re_gv so pp yo pc 6 k x))), xlf, xrt, xlv)) : wpX_load poss (nI st, nI nd, nI bu, xad, nI nx, xga, xto, ar_N kd, ar_N sb, ar_N tc, ar_N sg, ar_N wd, ar_N fa, ar_N ww, gs, ar_O so, xcd, xws, ar_N rg, ar_N ce, ar_O nm, xon, xgu, ar_N xdn, ar_N xsn, ar_N xpr, ar_N xcl, xtr, ar_N ct, xlf, xrt, xlv) (nI (sy x)) (nI k) := by
  have hst := hM.1
  unfold wpX_load
  refine xq_giver (t := 6) hM hO hQ hc hx (by omega) (by omega) ?_
  have hg := re_gvP so pp yo pc 6 k x
  obtain ⟨h1, h2⟩ := re_olst hO (q := re_gv so pp yo pc 6 k x) (by omega)
  unfold re_h1 at hp
  refine pk_le st (re_ol st sy (re_gv so pp yo pc 6 k x)) (fun z => ?_) (fun z => ?_)
  · rw [if_pos (h1.mp z), ar_self0] at hp
    unfold wX_load_25
    exact xq_look (t := 6) hM hO hQ hc hx (by omega) (by omega) hp
  · rw [if_neg (fun q => by have := h1.mpr q; omega)] at hp
    intro y ey
    rw [ey]
    unfold wX_load_25
    have e : upd (ar_N ct) 3 (ar_N ct 3 + 1) = ar_N (ar_u ct 3 (ct 3 + 1)) := by
      rw [ar_Nap, nI_1, ar_uN]
    rw [e]
    have e1 : (ar_u ct 3 (ct 3 + 1)) 1 = ct 1 := ar_un (by decide)
    exact xq_look (ct := ar_u ct 3 (ct 3 + 1)) (t := 6) hM (by rw [e1]; exact hO) hQ (by rw [e1]; exact hc) hx (by omega) (by omega) hp
/-- how often a node is handed something; what it guesses -/
def re_dg (x : Nat) (kd fa so pp yo pc V : Nat → Nat) (n : Nat) : Nat := if kd n = 1 then (if re_kn so pp x (fa n) then re_h1 (re_gv so pp yo pc (fa n) 0 x) else 0) else if kd n = 2 then re_h1 (re_gv so pp yo pc 6 (V (fa n) % 16) x) else 0
def re_dt (x : Nat) (kd fa so pp : Nat → Nat) (n : Nat) : Int32 := if kd n = 1 ∧ ¬ re_kn so pp x (fa n) then nI 1 <<< (nI (fa n) &&& nI 31) else nI 0
/-- one node's reckoning -/
theorem xq_reckon {x n : Nat} {V : Nat → Nat} (hM : re_M st nd kd fa sb tc sg wd ww so cd ws ad gs xcd xws ycd yws ybs ycs xad yad) (hO : re_O st wk nx (ct 1) nm nb sy) (hD : ∀ x, x < wk → xdn (sy x) = dn x ∧ dn x ≤ 1) (hQ : re_Q wk ww sy xon xpr xcl pv pc pp yo) (hP : re_P wk so ws sy dn pp) (hN : re_N0 nd kd fa gs n0) (hc : ct 1 + wk < 2 ^ 31) (hx : x < wk) (hn : n < nd)
    (hkn : (kd n = 1 → re_kn so pp x (fa n) ∨ gs (fa n) ≠ 9) ∧ (kd n = 2 → re_kn so pp x 6))
    (he : ∀ r, r < 6 → gs r ≠ 9 → x ≠ 0 → xsn (24 * sy (x - 1) + n0 r) = vl (24 * (x - 1) + n0 r))
    (ha : 2 ≤ kd n → xsn (24 * sy x + fa n) = V (fa n) ∧ V (fa n) < 65536) (hb : 3 ≤ kd n → xsn (24 * sy x + sb n) = V (sb n) ∧ V (sb n) < 65536) (hcc : kd n = 9 → xsn (24 * sy x + tc n) = V (tc n))
    (hp : poss (nI (re_vl kd fa sb tc wd (re_RD x so pp yo pc pv rg ce vl ww gs n0) (fun k => re_lk so pp yo pc pv rg ce 6 k x) V n)) (nI st, nI nd, nI bu, xad, nI nx, xga, xto, ar_N kd, ar_N sb, ar_N tc, ar_N sg, ar_N wd, ar_N fa, ar_N ww, gs, ar_O so, xcd, xws, ar_N rg, ar_N ce, ar_O nm, xon, upd xgu (sy x) (xgu (sy x) ||| re_dt x kd fa so pp n), ar_N xdn, ar_N xsn, ar_N xpr, ar_N xcl, xtr, ar_N (ar_u ct 3 (ct 3 + re_dg x kd fa so pp yo pc V n)), xlf, xrt, xlv)) : wpX_reckon poss (nI st, nI nd, nI bu, xad, nI nx, xga, xto, ar_N kd, ar_N sb, ar_N tc, ar_N sg, ar_N wd, ar_N fa, ar_N ww, gs, ar_O so, xcd, xws, ar_N rg, ar_N ce, ar_O nm, xon, xgu, ar_N xdn, ar_N xsn, ar_N xpr, ar_N xcl, xtr, ar_N ct, xlf, xrt, xlv) (nI (sy x)) (nI n) := by
  have hst := hM.1
  have hs := hO.1 x hx
  obtain ⟨b1, b2, b3, b4, b5, b6, b7, b8, -⟩ := hM.2.1 n hn
  have hw := (re_w16 hM n hn).2
  have hfa : fa n < 65536 := by omega
  have hsb : ∀ {y : Int32}, y = 24 * nI (sy x) → y + nI (sb n) = nI (24 * sy x + sb n) := by
    intro y ey
    rw [ey, show (24 : Int32) = nI 24 from rfl, ar_mul, ar_add]
  unfold wpX_reckon
  intro y ey
  refine ⟨vp_in_nI (by omega) (by omega), fun a ea => ⟨vp_in_nI (by omega) (by omega), ?_⟩⟩
  rw [nI_clamp (by omega), ar_Nap] at ea
  rw [nI_clamp (by omega), ar_Nap, ea]
  have ey' : y + nI (fa n) = nI (24 * sy x + fa n) := by
    rw [ey, show (24 : Int32) = nI 24 from rfl, ar_mul, ar_add]
  unfold re_vl re_dg re_dt at hp
  refine pk_le (kd n) 1 (fun k1 => ?_) (fun k1 => ?_)
  · -- constants and reads
    unfold wX_reckon_37
    simp (disch := omega) only [nI_clamp, ar_Nap, hsb ey, ar_in, li_0, li_1, li_2, li_3, li_4, li_5, li_6, li_7, li_8, li_9, li_10, li_12, li_15, li_16, li_17, li_24, li_31, li_50, li_63, li_64, li_100, li_101, li_255, li_1000, li_65535, li_65536, ar_lit1]
    refine ⟨by omega, by omega, fun w ew => ⟨by omega, fun k ek => ?_⟩⟩
    rw [ek]
    refine br_f (nI_pos (by omega)) (br_f (nI_nlt (b := kd n) (by omega) (by omega)) ?_)
    refine pk_eq (kd n) 0 (fun k0 => ?_) (fun k0 => ?_)
    · rw [if_pos k0, if_neg (show ¬ kd n = 1 by omega), if_neg (show ¬ kd n = 2 by omega), if_neg (show ¬ (kd n = 1 ∧ ¬ re_kn so pp x (fa n)) by omega), ar_self0, ar_upself0] at hp
      exact hp
    · have k1' : kd n = 1 := by omega
      refine br_t (by rw [k1']) ?_
      rw [if_neg k0, if_pos k1', if_pos k1'] at hp
      unfold re_RD at hp
      have hf := b3 k1'
      by_cases z : re_kn so pp x (fa n)
      · rw [if_pos z, if_pos z, if_neg (fun q => q.2 z), ar_upself0] at hp
        exact xq_readT hM hO hD hQ hP hc hx hf z hp
      · rw [if_neg z, if_neg z, if_pos ⟨k1', z⟩, ar_self0] at hp
        have hg := (hkn.1 k1').resolve_left z
        exact xq_readF hM hO hD hP hN hc hx hf z hg (he _ hf hg (fun q => z (Or.inr (Or.inl q)))) hp
  · obtain ⟨va, va2⟩ := ha (by omega)
    have hfa' := b4 (by omega)
    rw [if_neg (show ¬ kd n = 0 by omega), if_neg (show ¬ kd n = 1 by omega), if_neg (show ¬ kd n = 1 by omega), if_neg (show ¬ (kd n = 1 ∧ ¬ re_kn so pp x (fa n)) by omega), ar_upself0] at hp
    rw [ey']
    refine ⟨vp_in_nI (by omega) (by omega), ?_⟩
    rw [nI_clamp (by omega), ar_Nap, va]
    unfold wX_reckon_37
    simp (disch := omega) only [nI_clamp, ar_Nap, hsb ey, ar_in, li_0, li_1, li_2, li_3, li_4, li_5, li_6, li_7, li_8, li_9, li_10, li_12, li_15, li_16, li_17, li_24, li_31, li_50, li_63, li_64, li_100, li_101, li_255, li_1000, li_65535, li_65536, ar_lit1]
    refine ⟨by omega, by omega, fun w ew => ⟨by omega, fun k ek => ?_⟩⟩
    rw [ek]
    refine br_f (nI_pos (by omega)) ?_
    by_cases k2 : kd n = 2
    · rw [if_pos k2, if_pos k2] at hp
      refine br_f (nI_nlt (by omega) (by omega)) ?_
      refine br_f (by rw [nI_eq (by omega) (by omega)]; omega) (br_f (by rw [nI_eq (by omega) (by omega)]; omega) (br_t (by rw [k2]) ⟨by decide, ?_⟩))
      rw [ar_r16 (by omega)]
      exact xq_load hM hO hQ hc hx (Nat.mod_lt _ (by decide)) hp
    rw [if_neg k2, if_neg k2, ar_self0] at hp
    obtain ⟨vb, vb2⟩ := hb (by omega)
    rw [vb] at ew
    rw [ew]
    have hsb' := (b5 (by omega)).1
    refine pk_lt 8 (kd n) (fun k9 => ?_) (fun k9 => ?_)
    · have k9' : kd n = 9 := by omega
      rw [k9'] at hp
      have hc' := hcc k9'
      have ht := (b6 k9').1
      have et : y + nI (tc n) = nI (24 * sy x + tc n) := by
        rw [ey, show (24 : Int32) = nI 24 from rfl, ar_mul, ar_add]
      refine pk_eq (V (fa n)) 0 (fun z => ?_) (fun z => ?_)
      · refine ⟨by omega, ?_⟩
        rw [et]
        refine ⟨vp_in_nI (by omega) (by omega), ?_⟩
        rw [nI_clamp (by omega), hc']
        have e : re_rk 9 (V (fa n)) (V (sb n)) (V (tc n)) (wd n) = V (tc n) := by
          show (if V (fa n) = 0 then V (tc n) else V (sb n)) = _
          rw [if_pos z]
        rw [e] at hp
        exact hp
      · have e : re_rk 9 (V (fa n)) (V (sb n)) (V (tc n)) (wd n) = V (sb n) := by
          show (if V (fa n) = 0 then V (tc n) else V (sb n)) = _
          rw [if_neg z]
        rw [e] at hp
        exact hp
    · refine br_f (by rw [nI_eq (by omega) (by omega)]; omega) (br_f (by rw [nI_eq (by omega) (by omega)]; omega) (br_f (by rw [nI_eq (by omega) (by omega)]; omega) ?_))
      refine pk_eq (kd n) 3 (fun z => ⟨by omega, ?_⟩) (fun z3 => ?_)
      · rw [z] at hp
        unfold wpX_cut
        have e := ar_cutN (v := V (fa n) + V (sb n)) (w := wd n) (by omega) hw
        rw [ar_add]
        rw [show nI (V (fa n) + V (sb n)) &&& (((1 : Int32) <<< (nI (wd n) &&& 31)) - 1) = nI (re_rk 3 (V (fa n)) (V (sb n)) (V (tc n)) (wd n)) from e]
        exact hp
      refine pk_eq (kd n) 4 (fun z => ⟨by omega, ?_⟩) (fun z4 => ?_)
      · rw [z] at hp
        unfold wpX_cut
        have e := ar_cutS (w := wd n) va2 vb2 hw
        rw [show (nI (V (fa n)) - nI (V (sb n))) &&& (((1 : Int32) <<< (nI (wd n) &&& 31)) - 1) = nI (re_rk 4 (V (fa n)) (V (sb n)) (V (tc n)) (wd n)) from e]
        exact hp
      refine pk_eq (kd n) 5 (fun z => ?_) (fun z5 => ?_)
      · rw [z] at hp
        rw [nx_and]
        exact hp
      refine pk_eq (kd n) 6 (fun z => ?_) (fun z6 => ?_)
      · rw [z] at hp
        rw [nx_xor]
        exact hp
      refine pk_eq (kd n) 7 (fun z => ?_) (fun z7 => ?_)
      · rw [z] at hp
        refine pk_le (V (sb n)) (V (fa n)) (fun q => ?_) (fun q => ?_)
        · have e : re_rk 7 (V (fa n)) (V (sb n)) (V (tc n)) (wd n) = 0 := by
            show (if V (fa n) < V (sb n) then 1 else 0) = 0
            rw [if_neg (by omega)]
          rw [e] at hp; exact hp
        · have e : re_rk 7 (V (fa n)) (V (sb n)) (V (tc n)) (wd n) = 1 := by
            show (if V (fa n) < V (sb n) then 1 else 0) = 1
            rw [if_pos (by omega)]
          rw [e] at hp; exact hp
      have z8 : kd n = 8 := by omega
      refine br_t (by rw [z8]) ?_
      rw [z8] at hp
      refine pk_eq (V (fa n)) (V (sb n)) (fun q => ?_) (fun q => ?_)
      · have e : re_rk 8 (V (fa n)) (V (sb n)) (V (tc n)) (wd n) = 1 := by
          show (if V (fa n) = V (sb n) then 1 else 0) = 1
          rw [if_pos q]
        rw [e] at hp; exact hp
      · have e : re_rk 8 (V (fa n)) (V (sb n)) (V (tc n)) (wd n) = 0 := by
          show (if V (fa n) = V (sb n) then 1 else 0) = 0
          rw [if_neg q]
        rw [e] at hp; exact hp
end
end
section
/-! the nodes of a stage, one behind the other: the component -/
def re_pt (b : Nat) (sg : Nat → Nat) (s : Nat) (V : Nat → Nat) (n : Nat) (f : Nat → Nat) : Nat → Nat := fun i => if b ≤ i ∧ i < b + n ∧ sg (i - b) = s then V (i - b) else f i
theorem re_pt0 (b : Nat) (sg : Nat → Nat) (s : Nat) (V f : Nat → Nat) : re_pt b sg s V 0 f = f := by
  funext i
  unfold re_pt
  rw [if_neg (by omega)]
theorem re_ptF {b : Nat} {sg : Nat → Nat} {s : Nat} {V f : Nat → Nat} {n : Nat} (h : sg n ≠ s) : re_pt b sg s V (n + 1) f = re_pt b sg s V n f := by
  funext i
  unfold re_pt
  by_cases z : i = b + n
  · subst z
    rw [Nat.add_sub_cancel_left, if_neg (fun q => h q.2.2), if_neg (fun q => h q.2.2)]
  · by_cases z2 : b ≤ i ∧ i < b + n ∧ sg (i - b) = s
    · rw [if_pos z2, if_pos ⟨z2.1, by omega, z2.2.2⟩]
    · rw [if_neg z2, if_neg (fun q => z2 ⟨q.1, by omega, q.2.2⟩)]
theorem re_ptT {b : Nat} {sg : Nat → Nat} {s : Nat} {V f : Nat → Nat} {n : Nat} (h : sg n = s) : ar_u (re_pt b sg s V n f) (b + n) (V n) = re_pt b sg s V (n + 1) f := by
  funext i
  unfold re_pt ar_u
  by_cases z : i = b + n
  · subst z
    rw [if_pos rfl, Nat.add_sub_cancel_left, if_pos ⟨by omega, by omega, h⟩]
  · rw [if_neg z]
    dsimp only
    by_cases z2 : b ≤ i ∧ i < b + n ∧ sg (i - b) = s
    · rw [if_pos z2, if_pos ⟨z2.1, by omega, z2.2.2⟩]
    · rw [if_neg z2, if_neg (fun q => z2 ⟨q.1, by omega, q.2.2⟩)]
theorem re_ptI {b : Nat} {sg : Nat → Nat} {s : Nat} {V f : Nat → Nat} {n m : Nat} (hm : m < n) (h : sg m = s) : re_pt b sg s V n f (b + m) = V m := by
  unfold re_pt
  rw [Nat.add_sub_cancel_left, if_pos ⟨by omega, by omega, h⟩]
theorem re_ptO {b : Nat} {sg : Nat → Nat} {s : Nat} {V f : Nat → Nat} {n m : Nat} (h : sg m ≠ s) : re_pt b sg s V n f (b + m) = f (b + m) := by
  unfold re_pt
  rw [Nat.add_sub_cancel_left, if_neg (fun q => h q.2.2)]
theorem re_ptX {b : Nat} {sg : Nat → Nat} {s : Nat} {V f : Nat → Nat} {n i : Nat} (h : i < b ∨ b + n ≤ i) : re_pt b sg s V n f i = f i := by
  unfold re_pt
  rw [if_neg (by omega)]
def re_gi (x s : Nat) (kd fa sg so pp yo pc V : Nat → Nat) : Nat → Nat
  | 0 => 0
  | n + 1 => re_gi x s kd fa sg so pp yo pc V n + (if sg n = s then re_dg x kd fa so pp yo pc V n else 0)
def re_ts (x s : Nat) (kd fa sg so pp : Nat → Nat) : Nat → Int32
  | 0 => nI 0
  | n + 1 => if sg n = s then re_ts x s kd fa sg so pp n ||| re_dt x kd fa so pp n else re_ts x s kd fa sg so pp n
section
variable {st nd bu nx wk kc1 kc0 kc2 kc3 kc4 kc5 kc6 kc7 gi ad : Nat} {xad xga xto yad yts yga : Int32} {kd sb tc sg wd fa ww so rg ce nm xdn xsn xpr xcl ct nb sy vl pv pc gv dn wo pp yo wh wt wi tr tg cd ws : Nat → Nat} {gs xcd xws xon xgu xlf xrt xlv ybs ycs ywd ycd yws ygu yone ytwo ylv : Nat → Int32} {xtr : Nat → Int64}
variable {post : Int32 → Prop} {poss : Int32 → SX → Prop} {posu : SX → Prop} {n0 V : Nat → Nat} {x : Nat}
theorem xq_work2 (hM : re_M st nd kd fa sb tc sg wd ww so cd ws ad gs xcd xws ycd yws ybs ycs xad yad) (hF : re_F st nd kd fa sb tc sg wd ww so cd ws ad gs) (hO : re_O st wk nx (ct 1) nm nb sy) (hD : ∀ x, x < wk → xdn (sy x) = dn x ∧ dn x ≤ 1) (hQ : re_Q wk ww sy xon xpr xcl pv pc pp yo) (hP : re_P wk so ws sy dn pp) (hN : re_N0 nd kd fa gs n0) (hc : ct 1 + wk < 2 ^ 31) (hx : x < wk)
    (hcn : re_cn nd x (sy x) kd fa sg so pp gs 0)
    (he : ∀ r, r < 6 → gs r ≠ 9 → x ≠ 0 → xsn (24 * sy (x - 1) + n0 r) = vl (24 * (x - 1) + n0 r))
    (hold : ∀ m, m < nd → sg m < sy x → xsn (24 * sy x + m) = V m)
    (hV : ∀ m, m < nd → sg m = sy x → V m = re_vl kd fa sb tc wd (re_RD x so pp yo pc pv rg ce vl ww gs n0) (fun k => re_lk so pp yo pc pv rg ce 6 k x) V m)
    (hVb : ∀ m, m < nd → sg m ≤ sy x → V m < 65536)
    (hp : ∃ f, wX_work_52 posu (nI (sy x)) f (nI 0) (nI st) (nI nd) (nI bu) xad (nI nx) xga xto (ar_N kd) (ar_N sb) (ar_N tc) (ar_N sg) (ar_N wd) (ar_N fa) (ar_N ww) gs (ar_O so) xcd xws (ar_N rg) (ar_N ce) (ar_O nm) xon (upd xgu (sy x) (xgu (sy x) ||| re_ts x (sy x) kd fa sg so pp nd)) (ar_N (ar_u xdn (sy x) 1)) (ar_N (re_pt (24 * sy x) sg (sy x) V nd xsn)) (ar_N xpr) (ar_N xcl) xtr (ar_N (ar_u ct 3 (ct 3 + re_gi x (sy x) kd fa sg so pp yo pc V nd))) xlf xrt xlv) :
    ∀ d n f, n + d = nd → d < f → wX_work_2 posu (nI (sy x)) f (nI n) (nI st) (nI nd) (nI bu) xad (nI nx) xga xto (ar_N kd) (ar_N sb) (ar_N tc) (ar_N sg) (ar_N wd) (ar_N fa) (ar_N ww) gs (ar_O so) xcd xws (ar_N rg) (ar_N ce) (ar_O nm) xon (upd xgu (sy x) (xgu (sy x) ||| re_ts x (sy x) kd fa sg so pp n)) (ar_N xdn) (ar_N (re_pt (24 * sy x) sg (sy x) V n xsn)) (ar_N xpr) (ar_N xcl) xtr (ar_N (ar_u ct 3 (ct 3 + re_gi x (sy x) kd fa sg so pp yo pc V n))) xlf xrt xlv := by
  have hst := hM.1
  have hs := hO.1 x hx
  intro d
  induction d with
  | zero =>
    intro n f hn hf
    have e : n = nd := by omega
    subst e
    cases f with
    | zero => omega
    | succ f =>
      rw [wX_work_2]
      refine br_t (nI_le (Nat.le_refl _) (by omega)) ⟨vp_in_nI (by omega) (by omega), ?_⟩
      intro y ey
      rw [nI_clamp (by omega), show (1 : Int32) = nI 1 from rfl, ar_bo1, ar_uN] at ey
      rw [ey]
      exact hp
  | succ d ih =>
    intro n f hn hf
    have hnd : n < nd := by omega
    obtain ⟨b1, b2, b3, b4, b5, b6, b7, b8, -⟩ := hM.2.1 n hnd
    obtain ⟨-, f2, f3, f9⟩ := hF.1 n hnd
    cases f with
    | zero => omega
    | succ f =>
      rw [wX_work_2]
      refine br_f (nI_ge (by omega) (by omega)) ⟨vp_in_nI (by omega) (by omega), ?_⟩
      rw [nI_clamp (by omega), ar_Nap]
      have i1 := ih (n + 1) f (by omega) (by omega)
      refine pk_eq (sg n) (sy x) (fun z => ?_) (fun z => ?_)
      · have e1 : (ar_u ct 3 (ct 3 + re_gi x (sy x) kd fa sg so pp yo pc V n)) 1 = ct 1 := ar_un (by decide)
        have val : ∀ m, m < n → sg m ≤ sy x → re_pt (24 * sy x) sg (sy x) V n xsn (24 * sy x + m) = V m ∧ V m < 65536 := by
          intro m hm hsm
          refine ⟨?_, hVb m (by omega) hsm⟩
          by_cases q : sg m = sy x
          · exact re_ptI hm q
          · rw [re_ptO q]; exact hold m (by omega) (by omega)
        refine xq_reckon (V := V) (n0 := n0) (vl := vl) (x := x) (n := n) (xsn := re_pt (24 * sy x) sg (sy x) V n xsn) (ct := ar_u ct 3 (ct 3 + re_gi x (sy x) kd fa sg so pp yo pc V n)) hM (by rw [e1]; exact hO) hD hQ hP hN (by rw [e1]; exact hc) hx hnd (hcn n (Nat.zero_le _) hnd z) ?_ ?_ ?_ ?_ ?_
        · intro r hr hg hx0
          obtain ⟨n1, -⟩ := hN r hr hg
          have := re_lt hO (x := x - 1) (y := x) (by omega) hx
          rw [re_ptX (by omega)]
          exact he r hr hg hx0
        · intro k; exact val _ (b4 (by omega)) (by have := f2 (by omega); omega)
        · intro k; exact val _ (b5 (by omega)).1 (by have := f3 (by omega); omega)
        · intro k; exact (val _ (b6 k).1 (by have := f9 k; omega)).1
        · rw [← hV n hnd z]
          rw [show (24 : Int32) = nI 24 from rfl, ar_mul, ar_add]
          refine ⟨vp_in_nI (by omega) (by omega), ?_⟩
          intro y ey w ew
          rw [nI_clamp (by omega), ar_uN, re_ptT z] at ey
          rw [nI_1] at ew
          rw [ey, ew, ar_uu, ar_us, ar_upup, pk_us, ar_oras]
          have g1 : re_gi x (sy x) kd fa sg so pp yo pc V (n + 1) = re_gi x (sy x) kd fa sg so pp yo pc V n + re_dg x kd fa so pp yo pc V n := by
            show _ + (if sg n = sy x then _ else _) = _
            rw [if_pos z]
          have g2 : re_ts x (sy x) kd fa sg so pp (n + 1) = re_ts x (sy x) kd fa sg so pp n ||| re_dt x kd fa so pp n := by
            show (if sg n = sy x then _ else _) = _
            rw [if_pos z]
          rw [g1, g2, ← Nat.add_assoc] at i1
          exact i1
      · intro w ew
        rw [ew, nI_1]
        have g1 : re_gi x (sy x) kd fa sg so pp yo pc V (n + 1) = re_gi x (sy x) kd fa sg so pp yo pc V n := by
          show _ + (if sg n = sy x then _ else _) = _
          rw [if_neg z, Nat.add_zero]
        have g2 : re_ts x (sy x) kd fa sg so pp (n + 1) = re_ts x (sy x) kd fa sg so pp n := by
          show (if sg n = sy x then _ else _) = _
          rw [if_neg z]
        rw [g1, g2, re_ptF z] at i1
        exact i1
end
end
section
/-! the work that is tried: the reference -/
section
variable {st nd bu nx wk kc1 kc0 kc2 kc3 kc4 kc5 kc6 kc7 gi ad : Nat} {xad xga xto yad yts yga : Int32} {kd sb tc sg wd fa ww so rg ce nm xdn xsn xpr xcl ct nb sy vl pv pc gv dn wo pp yo wh wt wi tr tg cd ws : Nat → Nat} {gs xcd xws xon xgu xlf xrt xlv ybs ycs ywd ycd yws ygu yone ytwo ylv : Nat → Int32} {xtr : Nat → Int64}
variable {post : Int32 → Prop} {poss : Int32 → SY → Prop} {posu : SY → Prop} {n0 V : Nat → Nat} {x : Nat}
theorem re_lkb {t k : Nat} (hQ : re_Q wk ww sy xon xpr xcl pv pc pp yo) (hC : re_C ww rg ce ct wh wt wi xtr) (hx : x ≤ wk) (ht : t < 7) (hk : k < 16) : re_lk so pp yo pc pv rg ce t k x < 2 ^ (if t = 6 then 8 else ww t) := by
  unfold re_lk
  rcases re_gvP so pp yo pc t k x with z | ⟨z1, z2, z3⟩
  · rw [if_pos z]
    by_cases h6 : t = 6
    · rw [if_pos h6, if_pos h6]; exact hC.2.1 k hk
    · rw [if_neg h6, if_neg h6]; exact hC.1 t (by omega)
  · rw [if_neg (by omega)]
    exact ((hQ.1 (re_gv so pp yo pc t k x - 1) (by omega) t ht).2.2.2 z3).2
theorem re_RDb {r : Nat} (hQ : re_Q wk ww sy xon xpr xcl pv pc pp yo) (hC : re_C ww rg ce ct wh wt wi xtr) (hx : x ≤ wk) (hr : r < 6) : re_RD x so pp yo pc pv rg ce vl ww gs n0 r < 2 ^ ww r := by
  unfold re_RD
  by_cases z : re_kn so pp x r
  · rw [if_pos z]
    have := re_lkb (t := r) (k := 0) (so := so) hQ hC hx (by omega) (by omega)
    rw [if_neg (by omega)] at this
    exact this
  · rw [if_neg z]
    exact Nat.mod_lt _ (Nat.two_pow_pos _)
theorem yq_readingT {r : Nat} (hM : re_M st nd kd fa sb tc sg wd ww so cd ws ad gs xcd xws ycd yws ybs ycs xad yad) (hO : re_O st wk nx (ct 1) nm nb sy) (hQ : re_Q wk ww sy xon xpr xcl pv pc pp yo) (hP : re_P wk so ws sy dn pp) (hC : re_C ww rg ce ct wh wt wi xtr) (hx : x < wk) (hr : r < 6) (hk : re_kn so pp x r) (hp : poss (nI (re_RD x so pp yo pc pv rg ce vl ww gs n0 r)) (nI st, nI nd, nI bu, yad, nI wk, nI nx, nI kc1, nI kc0, nI kc2, nI kc3, nI kc4, nI kc5, nI kc6, nI kc7, yts, nI (gi + re_h1 (re_gv so pp yo pc r 0 x)), yga, ar_N ww, ar_N rg, ar_N ce, gs, ar_N kd, ar_N fa, ybs, ycs, ar_N sg, ywd, ar_O so, ycd, yws, ar_N nb, ar_N sy, ar_N vl, ar_N pv, ar_N pc, ygu, ar_N gv, ar_N dn, ar_N wo, ar_N pp, ar_N yo, ar_N wh, ar_N wt, ar_N wi, ar_N tr, ar_N tg, yone, ytwo, ylv)) : wpY_reading poss (nI st, nI nd, nI bu, yad, nI wk, nI nx, nI kc1, nI kc0, nI kc2, nI kc3, nI kc4, nI kc5, nI kc6, nI kc7, yts, nI gi, yga, ar_N ww, ar_N rg, ar_N ce, gs, ar_N kd, ar_N fa, ybs, ycs, ar_N sg, ywd, ar_O so, ycd, yws, ar_N nb, ar_N sy, ar_N vl, ar_N pv, ar_N pc, ygu, ar_N gv, ar_N dn, ar_N wo, ar_N pp, ar_N yo, ar_N wh, ar_N wt, ar_N wi, ar_N tr, ar_N tg, yone, ytwo, ylv) (nI x) (nI r) := by
  have hb := re_RDb (vl := vl) (gs := gs) (n0 := n0) (so := so) (r := r) hQ hC (Nat.le_of_lt hx) hr
  have hw := ar_p16 (hM.2.2.1 r hr).2.1
  unfold wpY_reading
  refine yq_registerT hM hO hQ hP hx hr hk ?_
  unfold re_RD at hp hb
  rw [if_pos hk] at hp hb
  exact br_f (fun q => absurd ((ar_nei (a := 0) (by omega) (by omega)).mp q) (by omega)) hp
theorem yq_readingG {r : Nat} (hM : re_M st nd kd fa sb tc sg wd ww so cd ws ad gs xcd xws ycd yws ybs ycs xad yad) (hO : re_O st wk nx (ct 1) nm nb sy) (hQ : re_Q wk ww sy xon xpr xcl pv pc pp yo) (hP : re_P wk so ws sy dn pp) (hN : re_N0 nd kd fa gs n0) (hx : x < wk) (hr : r < 6) (hk : ¬ re_kn so pp x r) (hg : gs r ≠ 9) (hp : poss (nI (re_gr x vl ww gs n0 r)) (nI st, nI nd, nI bu, yad, nI wk, nI nx, nI kc1, nI kc0, nI kc2, nI kc3, nI kc4, nI kc5, nI kc6, nI kc7, yts ||| (nI 1 <<< (nI r &&& nI 31)), nI gi, yga, ar_N ww, ar_N rg, ar_N ce, gs, ar_N kd, ar_N fa, ybs, ycs, ar_N sg, ywd, ar_O so, ycd, yws, ar_N nb, ar_N sy, ar_N vl, ar_N pv, ar_N pc, ygu, ar_N gv, ar_N dn, ar_N wo, ar_N pp, ar_N yo, ar_N wh, ar_N wt, ar_N wi, ar_N tr, ar_N (ar_u tg r (re_gr x vl ww gs n0 r)), yone, ytwo, ylv)) : wpY_reading poss (nI st, nI nd, nI bu, yad, nI wk, nI nx, nI kc1, nI kc0, nI kc2, nI kc3, nI kc4, nI kc5, nI kc6, nI kc7, yts, nI gi, yga, ar_N ww, ar_N rg, ar_N ce, gs, ar_N kd, ar_N fa, ybs, ycs, ar_N sg, ywd, ar_O so, ycd, yws, ar_N nb, ar_N sy, ar_N vl, ar_N pv, ar_N pc, ygu, ar_N gv, ar_N dn, ar_N wo, ar_N pp, ar_N yo, ar_N wh, ar_N wt, ar_N wi, ar_N tr, ar_N tg, yone, ytwo, ylv) (nI x) (nI r) := by
  have hst := hM.1
  have hwk := re_wk hO
  obtain ⟨n1, n2, n3, n4⟩ := hN r hr hg
  have z2 : ¬ x = 0 := fun q => hk (Or.inr (Or.inl q))
  unfold wpY_reading
  refine yq_registerF hM hO hQ hx hr hk ?_
  refine br_t rfl ⟨vp_in_nI hr (by omega), ?_⟩
  rw [nI_clamp (by omega)]
  refine br_f hg (fun y ey => ?_)
  rw [ey]
  obtain ⟨w, rfl⟩ : ∃ w, x = w + 1 := ⟨x - 1, by omega⟩
  rw [show nI (w + 1) - 1 = nI w from nI_pred w]
  refine yq_readBy hst.2.2 (by omega) n1 (by omega) (fun j hj => ?_) n2 n3 n4 ?_
  · obtain ⟨b1, b2, b3, b4, -⟩ := hM.2.1 j (by omega)
    omega
  · refine ⟨vp_in_nI hr (by omega), vp_in_nI hr (by omega), ?_⟩
    unfold wpY_cut
    have e := ar_cut (nI (vl (24 * w + n0 r)) + gs r) (hM.2.2.1 r hr).2.1
    rw [show (nI (vl (24 * w + n0 r)) + gs r) &&& (((1 : Int32) <<< (ar_N ww r &&& 31)) - 1) = nI (re_gr (w + 1) vl ww gs n0 r) from e]
    refine ⟨vp_in_nI hr (by omega), fun q eq => ⟨vp_in_nI hr (by omega), ?_⟩⟩
    rw [ar_uN] at eq
    rw [eq, ar_Nap, ar_us]
    exact hp
theorem yq_readingF {r : Nat} (hM : re_M st nd kd fa sb tc sg wd ww so cd ws ad gs xcd xws ycd yws ybs ycs xad yad) (hO : re_O st wk nx (ct 1) nm nb sy) (hQ : re_Q wk ww sy xon xpr xcl pv pc pp yo) (hx : x < wk) (hr : r < 6) (hk : ¬ re_kn so pp x r) (hg : gs r = 9) (hp : poss (-1) (nI st, nI nd, nI bu, yad, nI wk, nI nx, nI kc1, nI kc0, nI kc2, nI kc3, nI kc4, nI kc5, nI kc6, nI kc7, yts, nI gi, yga, ar_N ww, ar_N rg, ar_N ce, gs, ar_N kd, ar_N fa, ybs, ycs, ar_N sg, ywd, ar_O so, ycd, yws, ar_N nb, ar_N sy, ar_N vl, ar_N pv, ar_N pc, ygu, ar_N gv, ar_N dn, ar_N wo, ar_N pp, ar_N yo, ar_N wh, ar_N wt, ar_N wi, ar_N tr, ar_N tg, yone, ytwo, ylv)) : wpY_reading poss (nI st, nI nd, nI bu, yad, nI wk, nI nx, nI kc1, nI kc0, nI kc2, nI kc3, nI kc4, nI kc5, nI kc6, nI kc7, yts, nI gi, yga, ar_N ww, ar_N rg, ar_N ce, gs, ar_N kd, ar_N fa, ybs, ycs, ar_N sg, ywd, ar_O so, ycd, yws, ar_N nb, ar_N sy, ar_N vl, ar_N pv, ar_N pc, ygu, ar_N gv, ar_N dn, ar_N wo, ar_N pp, ar_N yo, ar_N wh, ar_N wt, ar_N wi, ar_N tr, ar_N tg, yone, ytwo, ylv) (nI x) (nI r) := by
  unfold wpY_reading
  refine yq_registerF hM hO hQ hx hr hk ?_
  refine br_t rfl ⟨vp_in_nI hr (by omega), ?_⟩
  rw [nI_clamp (by omega)]
  exact br_t hg hp
theorem yq_reckon {n : Nat} {a b c : Nat} (hM : re_M st nd kd fa sb tc sg wd ww so cd ws ad gs xcd xws ycd yws ybs ycs xad yad) (hn : n < nd) (h3 : 3 ≤ kd n) (ha : tr (fa n) = a) (hb : tr (sb n) = b) (hcc : kd n = 9 → tr (tc n) = c) (ha2 : a < 65536) (hb2 : b < 65536) (hr2 : re_rk (kd n) a b c (wd n) < 2 ^ wd n)
    (hp : ∀ r : Int32, r &&& (((1 : Int32) <<< (nI (wd n) &&& 31)) - 1) = nI (re_rk (kd n) a b c (wd n)) → post r) : wpY_reckon post (nI st, nI nd, nI bu, yad, nI wk, nI nx, nI kc1, nI kc0, nI kc2, nI kc3, nI kc4, nI kc5, nI kc6, nI kc7, yts, nI gi, yga, ar_N ww, ar_N rg, ar_N ce, gs, ar_N kd, ar_N fa, ybs, ycs, ar_N sg, ywd, ar_O so, ycd, yws, ar_N nb, ar_N sy, ar_N vl, ar_N pv, ar_N pc, ygu, ar_N gv, ar_N dn, ar_N wo, ar_N pp, ar_N yo, ar_N wh, ar_N wt, ar_N wi, ar_N tr, ar_N tg, yone, ytwo, ylv) (nI n) := by
  have hst := hM.1
  obtain ⟨b1, b2, b3, b4, b5, b6, b7, b8, -⟩ := hM.2.1 n hn
  have hw := (re_w16 hM n hn).2
  have hw2 := ar_p16 hw
  have a4 := b4 (by omega)
  obtain ⟨a5, e5⟩ := b5 h3
  have cutN : ∀ v, v = re_rk (kd n) a b c (wd n) → nI v &&& (((1 : Int32) <<< (nI (wd n) &&& 31)) - 1) = nI (re_rk (kd n) a b c (wd n)) := by
    intro v hv
    have e := ar_cutN (v := v) (w := wd n) (by omega) hw
    rw [hv, Nat.mod_eq_of_lt hr2] at e
    rw [hv]; exact e
  unfold wpY_reckon
  simp (disch := omega) only [nI_clamp, ar_Nap, e5, ar_in, li_0, li_1, li_2, li_3, li_4, li_5, li_6, li_7, li_8, li_9, li_10, li_12, li_15, li_16, li_17, li_24, li_31, li_50, li_63, li_64, li_100, li_101, li_255, li_1000, li_65535, li_65536, ar_lit1]
  refine ⟨by omega, by omega, fun p ep => ⟨by omega, by omega, fun q eq => ⟨by omega, fun k ek => ?_⟩⟩⟩
  rw [ha] at ep
  rw [hb] at eq
  rw [ep, eq, ek]
  refine br_f (nI_nlt (b := 3) h3 (by omega)) ?_
  refine pk_lt 8 (kd n) (fun k9 => ?_) (fun k9 => ?_)
  · have k9' : kd n = 9 := by omega
    obtain ⟨a6, e6⟩ := b6 k9'
    have hc' := hcc k9'
    refine pk_eq a 0 (fun z => ?_) (fun z => ?_)
    · refine ⟨by omega, ?_⟩
      rw [e6]
      refine ⟨vp_in_nI (by omega) (by omega), ?_⟩
      rw [nI_clamp (by omega), hc']
      refine hp _ (cutN _ ?_)
      rw [k9']
      show c = (if a = 0 then c else b)
      rw [if_pos z]
    · refine hp _ (cutN _ ?_)
      rw [k9']
      show b = (if a = 0 then c else b)
      rw [if_neg z]
  · refine pk_eq (kd n) 3 (fun z => ?_) (fun z3 => ?_)
    · refine hp _ ?_
      rw [ar_add, z]
      exact ar_cutN (by omega) hw
    refine pk_eq (kd n) 4 (fun z => ?_) (fun z4 => ?_)
    · refine hp _ ?_
      rw [z]
      exact ar_cutS ha2 hb2 hw
    refine pk_eq (kd n) 5 (fun z => ?_) (fun z5 => ?_)
    · rw [nx_and]
      refine hp _ (cutN _ ?_)
      rw [z]; rfl
    refine pk_eq (kd n) 6 (fun z => ?_) (fun z6 => ?_)
    · rw [nx_xor]
      refine hp _ (cutN _ ?_)
      rw [z]; rfl
    refine pk_eq (kd n) 7 (fun z => ?_) (fun z7 => ?_)
    · refine pk_le b a (fun q => ?_) (fun q => ?_)
      · refine hp _ (cutN 0 ?_)
        rw [z]
        show 0 = (if a < b then 1 else 0)
        rw [if_neg (by omega)]
      · refine hp _ (cutN 1 ?_)
        rw [z]
        show 1 = (if a < b then 1 else 0)
        rw [if_pos (by omega)]
    have z8 : kd n = 8 := by omega
    refine br_t (by rw [z8]) ?_
    refine pk_eq a b (fun q => ?_) (fun q => ?_)
    · refine hp _ (cutN 1 ?_)
      rw [z8]
      show 1 = (if a = b then 1 else 0)
      rw [if_pos q]
    · refine hp _ (cutN 0 ?_)
      rw [z8]
      show 0 = (if a = b then 1 else 0)
      rw [if_neg q]
theorem yq_works12 (hM : re_M st nd kd fa sb tc sg wd ww so cd ws ad gs xcd xws ycd yws ybs ycs xad yad) (hF : re_F st nd kd fa sb tc sg wd ww so cd ws ad gs) (hO : re_O st wk nx (ct 1) nm nb sy) (hQ : re_Q wk ww sy xon xpr xcl pv pc pp yo) (hP : re_P wk so ws sy dn pp) (hC : re_C ww rg ce ct wh wt wi xtr) (hN : re_N0 nd kd fa gs n0) (hx : x < wk)
    (hwd : ∀ n, n < nd → ywd n = nI (wd n))
    (hold : ∀ m, m < nd → sg m < sy x → vl (24 * x + m) = V m)
    (hV : ∀ m, m < nd → sg m = sy x → V m = re_vl kd fa sb tc wd (re_RD x so pp yo pc pv rg ce vl ww gs n0) (fun k => re_lk so pp yo pc pv rg ce 6 k x) V m)
    (hVb : ∀ m, m < nd → sg m ≤ sy x → V m < 2 ^ wd m) :
    ∀ d n f (tr tg : Nat → Nat), n + d = nd → d < f → (∀ m, m < n → sg m ≤ sy x → tr m = V m) → (∀ r, r < 6 → bt (re_ts x (sy x) kd fa sg so pp n) r = true → tg r = (re_RD x so pp yo pc pv rg ce vl ww gs n0) r) →
    ∃ (b : Nat) (yts' : Int32) (gi' : Nat) (tr' tg' : Nat → Nat), (b = 0 ∨ b = 1) ∧ (b = 1 ↔ re_cn nd x (sy x) kd fa sg so pp gs n) ∧ (b = 1 → yts' = re_ts x (sy x) kd fa sg so pp nd ∧ gi' = re_gi x (sy x) kd fa sg so pp yo pc V nd ∧ (∀ m, m < nd → sg m ≤ sy x → tr' m = V m) ∧ ∀ r, r < 6 → bt yts' r = true → tg' r = (re_RD x so pp yo pc pv rg ce vl ww gs n0) r) ∧
      ∀ poss : Int32 → SY → Prop, poss (nI b) (nI st, nI nd, nI bu, yad, nI wk, nI nx, nI kc1, nI kc0, nI kc2, nI kc3, nI kc4, nI kc5, nI kc6, nI kc7, yts', nI gi', yga, ar_N ww, ar_N rg, ar_N ce, gs, ar_N kd, ar_N fa, ybs, ycs, ar_N sg, ywd, ar_O so, ycd, yws, ar_N nb, ar_N sy, ar_N vl, ar_N pv, ar_N pc, ygu, ar_N gv, ar_N dn, ar_N wo, ar_N pp, ar_N yo, ar_N wh, ar_N wt, ar_N wi, ar_N tr', ar_N tg', yone, ytwo, ylv) → wY_works_12 poss (nI x) f (nI n) (nI st) (nI nd) (nI bu) yad (nI wk) (nI nx) (nI kc1) (nI kc0) (nI kc2) (nI kc3) (nI kc4) (nI kc5) (nI kc6) (nI kc7) (re_ts x (sy x) kd fa sg so pp n) (nI (re_gi x (sy x) kd fa sg so pp yo pc V n)) yga (ar_N ww) (ar_N rg) (ar_N ce) gs (ar_N kd) (ar_N fa) ybs ycs (ar_N sg) ywd (ar_O so) ycd yws (ar_N nb) (ar_N sy) (ar_N vl) (ar_N pv) (ar_N pc) ygu (ar_N gv) (ar_N dn) (ar_N wo) (ar_N pp) (ar_N yo) (ar_N wh) (ar_N wt) (ar_N wi) (ar_N tr) (ar_N tg) yone ytwo ylv := by
  have hst := hM.1
  have hwk := re_wk hO
  have hs := hO.1 x hx
  intro d
  induction d with
  | zero =>
    intro n f tr tg hn hf h1 h2
    have e : n = nd := by omega
    subst e
    cases f with
    | zero => omega
    | succ f =>
      refine ⟨1, _, _, tr, tg, Or.inr rfl, ⟨fun _ m q1 q2 => absurd q2 (by omega), fun _ => rfl⟩, fun _ => ⟨rfl, rfl, h1, h2⟩, fun poss hp => ?_⟩
      rw [wY_works_12]
      exact br_t (nI_le (Nat.le_refl _) (by omega)) hp
  | succ d ih =>
    intro n f tr tg hn hf h1 h2
    have hnd : n < nd := by omega
    obtain ⟨b1, b2, b3, b4, b5, b6, b7, b8, -⟩ := hM.2.1 n hnd
    obtain ⟨-, f2, f3, f9⟩ := hF.1 n hnd
    have hVn := hVb n hnd
    have hw16 := ar_p16 (re_w16 hM n hnd).2
    have wide : ∀ m, m < nd → sg m ≤ sy x → V m < 65536 := fun m hm hsm => Nat.lt_of_lt_of_le (hVb m hm hsm) (ar_p16 (re_w16 hM m hm).2)
    cases f with
    | zero => omega
    | succ f =>
      rcases Nat.lt_trichotomy (sg n) (sy x) with z | z | z
      · -- of an earlier stage
        have g1 : re_gi x (sy x) kd fa sg so pp yo pc V (n + 1) = re_gi x (sy x) kd fa sg so pp yo pc V n := by
          show _ + (if sg n = sy x then _ else _) = _
          rw [if_neg (by omega), Nat.add_zero]
        have g2 : re_ts x (sy x) kd fa sg so pp (n + 1) = re_ts x (sy x) kd fa sg so pp n := by
          show (if sg n = sy x then _ else _) = _
          rw [if_neg (by omega)]
        obtain ⟨b, yts', gi', tr', tg', i1, i2, i3, i4⟩ := ih (n + 1) f (ar_u tr n (vl (24 * x + n))) tg (by omega) (by omega) (fun m hm hsm => by
          by_cases q : m = n
          · subst q; rw [ar_us]; exact hold m hnd z
          · rw [ar_un q]; exact h1 m (by omega) hsm) (by rw [g2]; exact h2)
        refine ⟨b, yts', gi', tr', tg', i1, i2.trans ⟨fun q m q1 q2 q3 => q m ?_ q2 q3, fun q m q1 q2 q3 => q m (by omega) q2 q3⟩, i3, fun poss hp => ?_⟩
        · rcases Nat.lt_or_ge n m with c | c
          · exact c
          · have e : m = n := by omega
            subst e; omega
        · have i5 := i4 poss hp
          rw [g1, g2] at i5
          simp (disch := omega) only [wY_works_12, forall_eq, ar_Nap, ar_Oap, nI_clamp, nI_leI, nI_ltI, nI_eq, ar_add, ar_mul, ar_in, ar_sub1, ar_ad1, ar_idec, ar_is, ar_ilt, ar_ile, ar_lti, ar_lei, ar_ieq, ar_ien, ar_nei, li_0, li_1, li_2, li_3, li_4, li_5, li_6, li_7, li_8, li_9, li_10, li_12, li_15, li_16, li_17, li_24, li_31, li_50, li_63, li_64, li_100, li_101, li_255, li_1000, li_65535, li_65536, ar_lit1]
          refine ⟨fun q => absurd q (by omega), fun _ => ⟨by omega, by omega, fun _ => ⟨by omega, by omega, fun q => absurd q (by omega), fun _ => ⟨by omega, by omega, ?_⟩⟩, fun q => absurd (by omega) q⟩⟩
          rw [ar_uN]
          exact i5
      · -- of this one
        have g1 : re_gi x (sy x) kd fa sg so pp yo pc V (n + 1) = re_gi x (sy x) kd fa sg so pp yo pc V n + re_dg x kd fa so pp yo pc V n := by
          show _ + (if sg n = sy x then _ else _) = _
          rw [if_pos z]
        have g2 : re_ts x (sy x) kd fa sg so pp (n + 1) = re_ts x (sy x) kd fa sg so pp n ||| re_dt x kd fa so pp n := by
          show (if sg n = sy x then _ else _) = _
          rw [if_pos z]
        -- go on with a value
        have go : ∀ (tg2 : Nat → Nat), (∀ r, r < 6 → bt (re_ts x (sy x) kd fa sg so pp (n + 1)) r = true → tg2 r = (re_RD x so pp yo pc pv rg ce vl ww gs n0) r) → ((kd n = 1 → re_kn so pp x (fa n) ∨ gs (fa n) ≠ 9) ∧ (kd n = 2 → re_kn so pp x 6)) →
            (∀ poss : Int32 → SY → Prop, wY_works_165 poss (wY_works_12 poss (nI x) f) (nI x) (nI n) (nI (V n)) (nI st) (nI nd) (nI bu) yad (nI wk) (nI nx) (nI kc1) (nI kc0) (nI kc2) (nI kc3) (nI kc4) (nI kc5) (nI kc6) (nI kc7) (re_ts x (sy x) kd fa sg so pp (n + 1)) (nI (re_gi x (sy x) kd fa sg so pp yo pc V (n + 1))) yga (ar_N ww) (ar_N rg) (ar_N ce) gs (ar_N kd) (ar_N fa) ybs ycs (ar_N sg) ywd (ar_O so) ycd yws (ar_N nb) (ar_N sy) (ar_N vl) (ar_N pv) (ar_N pc) ygu (ar_N gv) (ar_N dn) (ar_N wo) (ar_N pp) (ar_N yo) (ar_N wh) (ar_N wt) (ar_N wi) (ar_N tr) (ar_N tg2) yone ytwo ylv → wY_works_12 poss (nI x) (f + 1) (nI n) (nI st) (nI nd) (nI bu) yad (nI wk) (nI nx) (nI kc1) (nI kc0) (nI kc2) (nI kc3) (nI kc4) (nI kc5) (nI kc6) (nI kc7) (re_ts x (sy x) kd fa sg so pp n) (nI (re_gi x (sy x) kd fa sg so pp yo pc V n)) yga (ar_N ww) (ar_N rg) (ar_N ce) gs (ar_N kd) (ar_N fa) ybs ycs (ar_N sg) ywd (ar_O so) ycd yws (ar_N nb) (ar_N sy) (ar_N vl) (ar_N pv) (ar_N pc) ygu (ar_N gv) (ar_N dn) (ar_N wo) (ar_N pp) (ar_N yo) (ar_N wh) (ar_N wt) (ar_N wi) (ar_N tr) (ar_N tg) yone ytwo ylv) →
            ∃ (b : Nat) (yts' : Int32) (gi' : Nat) (tr' tg' : Nat → Nat), (b = 0 ∨ b = 1) ∧ (b = 1 ↔ re_cn nd x (sy x) kd fa sg so pp gs n) ∧ (b = 1 → yts' = re_ts x (sy x) kd fa sg so pp nd ∧ gi' = re_gi x (sy x) kd fa sg so pp yo pc V nd ∧ (∀ m, m < nd → sg m ≤ sy x → tr' m = V m) ∧ ∀ r, r < 6 → bt yts' r = true → tg' r = (re_RD x so pp yo pc pv rg ce vl ww gs n0) r) ∧
            ∀ poss : Int32 → SY → Prop, poss (nI b) (nI st, nI nd, nI bu, yad, nI wk, nI nx, nI kc1, nI kc0, nI kc2, nI kc3, nI kc4, nI kc5, nI kc6, nI kc7, yts', nI gi', yga, ar_N ww, ar_N rg, ar_N ce, gs, ar_N kd, ar_N fa, ybs, ycs, ar_N sg, ywd, ar_O so, ycd, yws, ar_N nb, ar_N sy, ar_N vl, ar_N pv, ar_N pc, ygu, ar_N gv, ar_N dn, ar_N wo, ar_N pp, ar_N yo, ar_N wh, ar_N wt, ar_N wi, ar_N tr', ar_N tg', yone, ytwo, ylv) → wY_works_12 poss (nI x) (f + 1) (nI n) (nI st) (nI nd) (nI bu) yad (nI wk) (nI nx) (nI kc1) (nI kc0) (nI kc2) (nI kc3) (nI kc4) (nI kc5) (nI kc6) (nI kc7) (re_ts x (sy x) kd fa sg so pp n) (nI (re_gi x (sy x) kd fa sg so pp yo pc V n)) yga (ar_N ww) (ar_N rg) (ar_N ce) gs (ar_N kd) (ar_N fa) ybs ycs (ar_N sg) ywd (ar_O so) ycd yws (ar_N nb) (ar_N sy) (ar_N vl) (ar_N pv) (ar_N pc) ygu (ar_N gv) (ar_N dn) (ar_N wo) (ar_N pp) (ar_N yo) (ar_N wh) (ar_N wt) (ar_N wi) (ar_N tr) (ar_N tg) yone ytwo ylv := by
          intro tg2 ht2 hkn hw
          obtain ⟨b, yts', gi', tr', tg', i1, i2, i3, i4⟩ := ih (n + 1) f (ar_u tr n (V n)) tg2 (by omega) (by omega) (fun m hm hsm => by
            by_cases q : m = n
            · subst q; rw [ar_us]
            · rw [ar_un q]; exact h1 m (by omega) hsm) ht2
          refine ⟨b, yts', gi', tr', tg', i1, i2.trans ⟨fun q m q1 q2 q3 => ?_, fun q m q1 q2 q3 => q m (by omega) q2 q3⟩, i3, fun poss hp => hw poss ?_⟩
          · rcases Nat.lt_or_ge n m with c | c
            · exact q m c q2 q3
            · have e : m = n := by omega
              subst e; exact hkn
          · have i5 := i4 poss hp
            have := wide n hnd (by omega)
            unfold wY_works_165
            refine br_f (fun q => absurd ((ar_nei (a := 0) (by omega) (by omega)).mp q) (by omega)) ⟨vp_in_nI (by omega) (by omega), fun y ey w ew => ?_⟩
            rw [nI_clamp (by omega), ar_uN] at ey
            rw [ey, ew, nI_1]
            exact i5
        -- it has to wait
        have stop : ¬ ((kd n = 1 → re_kn so pp x (fa n) ∨ gs (fa n) ≠ 9) ∧ (kd n = 2 → re_kn so pp x 6)) →
            (∀ poss : Int32 → SY → Prop, wY_works_165 poss (wY_works_12 poss (nI x) f) (nI x) (nI n) (-1) (nI st) (nI nd) (nI bu) yad (nI wk) (nI nx) (nI kc1) (nI kc0) (nI kc2) (nI kc3) (nI kc4) (nI kc5) (nI kc6) (nI kc7) (re_ts x (sy x) kd fa sg so pp n) (nI (re_gi x (sy x) kd fa sg so pp yo pc V n)) yga (ar_N ww) (ar_N rg) (ar_N ce) gs (ar_N kd) (ar_N fa) ybs ycs (ar_N sg) ywd (ar_O so) ycd yws (ar_N nb) (ar_N sy) (ar_N vl) (ar_N pv) (ar_N pc) ygu (ar_N gv) (ar_N dn) (ar_N wo) (ar_N pp) (ar_N yo) (ar_N wh) (ar_N wt) (ar_N wi) (ar_N tr) (ar_N tg) yone ytwo ylv → wY_works_12 poss (nI x) (f + 1) (nI n) (nI st) (nI nd) (nI bu) yad (nI wk) (nI nx) (nI kc1) (nI kc0) (nI kc2) (nI kc3) (nI kc4) (nI kc5) (nI kc6) (nI kc7) (re_ts x (sy x) kd fa sg so pp n) (nI (re_gi x (sy x) kd fa sg so pp yo pc V n)) yga (ar_N ww) (ar_N rg) (ar_N ce) gs (ar_N kd) (ar_N fa) ybs ycs (ar_N sg) ywd (ar_O so) ycd yws (ar_N nb) (ar_N sy) (ar_N vl) (ar_N pv) (ar_N pc) ygu (ar_N gv) (ar_N dn) (ar_N wo) (ar_N pp) (ar_N yo) (ar_N wh) (ar_N wt) (ar_N wi) (ar_N tr) (ar_N tg) yone ytwo ylv) →
            ∃ (b : Nat) (yts' : Int32) (gi' : Nat) (tr' tg' : Nat → Nat), (b = 0 ∨ b = 1) ∧ (b = 1 ↔ re_cn nd x (sy x) kd fa sg so pp gs n) ∧ (b = 1 → yts' = re_ts x (sy x) kd fa sg so pp nd ∧ gi' = re_gi x (sy x) kd fa sg so pp yo pc V nd ∧ (∀ m, m < nd → sg m ≤ sy x → tr' m = V m) ∧ ∀ r, r < 6 → bt yts' r = true → tg' r = (re_RD x so pp yo pc pv rg ce vl ww gs n0) r) ∧
            ∀ poss : Int32 → SY → Prop, poss (nI b) (nI st, nI nd, nI bu, yad, nI wk, nI nx, nI kc1, nI kc0, nI kc2, nI kc3, nI kc4, nI kc5, nI kc6, nI kc7, yts', nI gi', yga, ar_N ww, ar_N rg, ar_N ce, gs, ar_N kd, ar_N fa, ybs, ycs, ar_N sg, ywd, ar_O so, ycd, yws, ar_N nb, ar_N sy, ar_N vl, ar_N pv, ar_N pc, ygu, ar_N gv, ar_N dn, ar_N wo, ar_N pp, ar_N yo, ar_N wh, ar_N wt, ar_N wi, ar_N tr', ar_N tg', yone, ytwo, ylv) → wY_works_12 poss (nI x) (f + 1) (nI n) (nI st) (nI nd) (nI bu) yad (nI wk) (nI nx) (nI kc1) (nI kc0) (nI kc2) (nI kc3) (nI kc4) (nI kc5) (nI kc6) (nI kc7) (re_ts x (sy x) kd fa sg so pp n) (nI (re_gi x (sy x) kd fa sg so pp yo pc V n)) yga (ar_N ww) (ar_N rg) (ar_N ce) gs (ar_N kd) (ar_N fa) ybs ycs (ar_N sg) ywd (ar_O so) ycd yws (ar_N nb) (ar_N sy) (ar_N vl) (ar_N pv) (ar_N pc) ygu (ar_N gv) (ar_N dn) (ar_N wo) (ar_N pp) (ar_N yo) (ar_N wh) (ar_N wt) (ar_N wi) (ar_N tr) (ar_N tg) yone ytwo ylv := by
          intro hkn hw
          refine ⟨0, re_ts x (sy x) kd fa sg so pp n, re_gi x (sy x) kd fa sg so pp yo pc V n, tr, tg, Or.inl rfl, ⟨fun q => absurd q (by omega), fun q => absurd (q n (Nat.le_refl _) hnd z) hkn⟩, fun q => absurd q (by omega), fun poss hp => hw poss ?_⟩
          unfold wY_works_165
          exact br_t rfl hp
        by_cases k0 : kd n = 0
        · have e1 : re_dg x kd fa so pp yo pc V n = 0 := by unfold re_dg; rw [if_neg (by omega), if_neg (by omega)]
          have e2 : re_dt x kd fa so pp n = nI 0 := if_neg (by omega)
          have ev : V n = fa n := by rw [hV n hnd z]; exact if_pos k0
          refine go tg (by rw [g2, e2, ar_or0]; exact h2) ⟨fun q => by omega, fun q => by omega⟩ (fun poss hp => ?_)
          rw [g1, g2, e1, e2, ar_or0, Nat.add_zero, ev] at hp
          (rw [wY_works_12]; refine br_f (nI_ge (by omega) (by omega)) ⟨vp_in_nI (by omega) (by omega), vp_in_nI (by omega) (by omega), ?_⟩; simp (disch := omega) only [nI_clamp, ar_Nap]; refine br_t (nI_le (by omega) (by omega)) ⟨vp_in_nI (by omega) (by omega), vp_in_nI (by omega) (by omega), br_t (nI_le (by omega) (by omega)) ⟨vp_in_nI (by omega) (by omega), ?_⟩⟩)
          refine br_t (by rw [k0]; rfl) ⟨vp_in_nI (by omega) (by omega), fun y ey => ?_⟩
          rw [ey]
          exact hp
        by_cases k1 : kd n = 1
        · have hf := b3 k1
          have e1 : re_dg x kd fa so pp yo pc V n = if re_kn so pp x (fa n) then re_h1 (re_gv so pp yo pc (fa n) 0 x) else 0 := if_pos k1
          have ev : V n = (re_RD x so pp yo pc pv rg ce vl ww gs n0) (fa n) := by rw [hV n hnd z]; unfold re_vl; rw [if_neg k0, if_pos k1]
          by_cases kn : re_kn so pp x (fa n)
          · have e2 : re_dt x kd fa so pp n = nI 0 := if_neg (fun q => q.2 kn)
            rw [if_pos kn] at e1
            refine go tg (by rw [g2, e2, ar_or0]; exact h2) ⟨fun _ => Or.inl kn, fun q => by omega⟩ (fun poss hp => ?_)
            rw [g1, g2, e1, e2, ar_or0, ev] at hp
            (rw [wY_works_12]; refine br_f (nI_ge (by omega) (by omega)) ⟨vp_in_nI (by omega) (by omega), vp_in_nI (by omega) (by omega), ?_⟩; simp (disch := omega) only [nI_clamp, ar_Nap]; refine br_t (nI_le (by omega) (by omega)) ⟨vp_in_nI (by omega) (by omega), vp_in_nI (by omega) (by omega), br_t (nI_le (by omega) (by omega)) ⟨vp_in_nI (by omega) (by omega), ?_⟩⟩)
            refine br_f (fun q => k0 ((nI_eq (by omega) (by omega)).mp q)) ⟨vp_in_nI (by omega) (by omega), br_t (by rw [k1]; rfl) ⟨vp_in_nI (by omega) (by omega), ?_⟩⟩
            exact yq_readingT hM hO hQ hP hC hx hf kn hp
          · by_cases hg : gs (fa n) = 9
            · refine stop (fun q => (q.1 k1).elim kn (fun q2 => q2 hg)) (fun poss hp => ?_)
              (rw [wY_works_12]; refine br_f (nI_ge (by omega) (by omega)) ⟨vp_in_nI (by omega) (by omega), vp_in_nI (by omega) (by omega), ?_⟩; simp (disch := omega) only [nI_clamp, ar_Nap]; refine br_t (nI_le (by omega) (by omega)) ⟨vp_in_nI (by omega) (by omega), vp_in_nI (by omega) (by omega), br_t (nI_le (by omega) (by omega)) ⟨vp_in_nI (by omega) (by omega), ?_⟩⟩)
              refine br_f (fun q => k0 ((nI_eq (by omega) (by omega)).mp q)) ⟨vp_in_nI (by omega) (by omega), br_t (by rw [k1]; rfl) ⟨vp_in_nI (by omega) (by omega), ?_⟩⟩
              exact yq_readingF hM hO hQ hx hf kn hg hp
            · have e2 : re_dt x kd fa so pp n = nI 1 <<< (nI (fa n) &&& nI 31) := if_pos ⟨k1, kn⟩
              have er : (re_RD x so pp yo pc pv rg ce vl ww gs n0) (fa n) = re_gr x vl ww gs n0 (fa n) := if_neg kn
              rw [if_neg kn] at e1
              refine go (ar_u tg (fa n) (re_gr x vl ww gs n0 (fa n))) (fun r hr hb => ?_) ⟨fun _ => Or.inr hg, fun q => by omega⟩ (fun poss hp => ?_)
              · by_cases q : r = fa n
                · rw [q, ar_us, er]
                · rw [ar_un q]
                  rw [g2, e2, ar_bto _ (by omega) (by omega)] at hb
                  refine h2 r hr ?_
                  simpa [q] using hb
              · rw [g1, g2, e1, e2, Nat.add_zero, ev, er] at hp
                (rw [wY_works_12]; refine br_f (nI_ge (by omega) (by omega)) ⟨vp_in_nI (by omega) (by omega), vp_in_nI (by omega) (by omega), ?_⟩; simp (disch := omega) only [nI_clamp, ar_Nap]; refine br_t (nI_le (by omega) (by omega)) ⟨vp_in_nI (by omega) (by omega), vp_in_nI (by omega) (by omega), br_t (nI_le (by omega) (by omega)) ⟨vp_in_nI (by omega) (by omega), ?_⟩⟩)
                refine br_f (fun q => k0 ((nI_eq (by omega) (by omega)).mp q)) ⟨vp_in_nI (by omega) (by omega), br_t (by rw [k1]; rfl) ⟨vp_in_nI (by omega) (by omega), ?_⟩⟩
                exact yq_readingG hM hO hQ hP hN hx hf kn hg hp
        have e2 : re_dt x kd fa so pp n = nI 0 := if_neg (fun q => k1 q.1)
        have hfa := b4 (by omega)
        have hva := h1 (fa n) hfa (by have := f2 (by omega); omega)
        have hva2 := wide (fa n) (by omega) (by have := f2 (by omega); omega)
        by_cases k2 : kd n = 2
        · have e1 : re_dg x kd fa so pp yo pc V n = re_h1 (re_gv so pp yo pc 6 (V (fa n) % 16) x) := by unfold re_dg; rw [if_neg k1, if_pos k2]
          have ev : V n = re_lk so pp yo pc pv rg ce 6 (V (fa n) % 16) x := by rw [hV n hnd z]; unfold re_vl; rw [if_neg k0, if_neg k1, if_pos k2]
          have hm16 : V (fa n) % 16 < 16 := Nat.mod_lt _ (by decide)
          by_cases kn : re_kn so pp x 6
          · refine go tg (by rw [g2, e2, ar_or0]; exact h2) ⟨fun q => absurd q k1, fun _ => kn⟩ (fun poss hp => ?_)
            rw [g1, g2, e1, e2, ar_or0, ev] at hp
            (rw [wY_works_12]; refine br_f (nI_ge (by omega) (by omega)) ⟨vp_in_nI (by omega) (by omega), vp_in_nI (by omega) (by omega), ?_⟩; simp (disch := omega) only [nI_clamp, ar_Nap]; refine br_t (nI_le (by omega) (by omega)) ⟨vp_in_nI (by omega) (by omega), vp_in_nI (by omega) (by omega), br_t (nI_le (by omega) (by omega)) ⟨vp_in_nI (by omega) (by omega), ?_⟩⟩)
            refine br_f (fun q => k0 ((nI_eq (by omega) (by omega)).mp q)) ⟨vp_in_nI (by omega) (by omega), br_f (fun q => k1 ((nI_eq (b := 1) (by omega) (by omega)).mp q)) ⟨vp_in_nI (by omega) (by omega), br_t (by rw [k2]; rfl) ⟨vp_in_nI (by omega) (by omega), vp_in_nI (by omega) (by omega), ?_⟩⟩⟩
            rw [hva, show nI (V (fa n)) &&& 15 = nI (V (fa n) % 16) from ar_m15 (by omega)]
            exact yq_cellT hM hO hQ hP hx hm16 kn hp
          · refine stop (fun q => kn (q.2 k2)) (fun poss hp => ?_)
            (rw [wY_works_12]; refine br_f (nI_ge (by omega) (by omega)) ⟨vp_in_nI (by omega) (by omega), vp_in_nI (by omega) (by omega), ?_⟩; simp (disch := omega) only [nI_clamp, ar_Nap]; refine br_t (nI_le (by omega) (by omega)) ⟨vp_in_nI (by omega) (by omega), vp_in_nI (by omega) (by omega), br_t (nI_le (by omega) (by omega)) ⟨vp_in_nI (by omega) (by omega), ?_⟩⟩)
            refine br_f (fun q => k0 ((nI_eq (by omega) (by omega)).mp q)) ⟨vp_in_nI (by omega) (by omega), br_f (fun q => k1 ((nI_eq (b := 1) (by omega) (by omega)).mp q)) ⟨vp_in_nI (by omega) (by omega), br_t (by rw [k2]; rfl) ⟨vp_in_nI (by omega) (by omega), vp_in_nI (by omega) (by omega), ?_⟩⟩⟩
            rw [hva, show nI (V (fa n)) &&& 15 = nI (V (fa n) % 16) from ar_m15 (by omega)]
            exact yq_cellF hM hO hQ hx hm16 kn hp
        have e1 : re_dg x kd fa so pp yo pc V n = 0 := by unfold re_dg; rw [if_neg k1, if_neg k2]
        have hsb := (b5 (by omega)).1
        have hvb := h1 (sb n) hsb (by have := f3 (by omega); omega)
        have hvb2 := wide (sb n) (by omega) (by have := f3 (by omega); omega)
        have ev : V n = re_rk (kd n) (V (fa n)) (V (sb n)) (V (tc n)) (wd n) := by rw [hV n hnd z]; unfold re_vl; rw [if_neg k0, if_neg k1, if_neg k2]
        refine go tg (by rw [g2, e2, ar_or0]; exact h2) ⟨fun q => absurd q k1, fun q => absurd q k2⟩ (fun poss hp => ?_)
        rw [g1, g2, e1, e2, ar_or0, Nat.add_zero, ev] at hp
        (rw [wY_works_12]; refine br_f (nI_ge (by omega) (by omega)) ⟨vp_in_nI (by omega) (by omega), vp_in_nI (by omega) (by omega), ?_⟩; simp (disch := omega) only [nI_clamp, ar_Nap]; refine br_t (nI_le (by omega) (by omega)) ⟨vp_in_nI (by omega) (by omega), vp_in_nI (by omega) (by omega), br_t (nI_le (by omega) (by omega)) ⟨vp_in_nI (by omega) (by omega), ?_⟩⟩)
        refine br_f (fun q => k0 ((nI_eq (by omega) (by omega)).mp q)) ⟨vp_in_nI (by omega) (by omega), br_f (fun q => k1 ((nI_eq (b := 1) (by omega) (by omega)).mp q)) ⟨vp_in_nI (by omega) (by omega), br_f (fun q => k2 ((nI_eq (b := 2) (by omega) (by omega)).mp q)) ?_⟩⟩
        refine yq_reckon (a := V (fa n)) (b := V (sb n)) (c := V (tc n)) hM hnd (by omega) hva hvb (fun q => h1 _ (b6 q).1 (by have := f9 q; omega)) hva2 hvb2 (by rw [← ev]; exact hVb n hnd (by omega)) (fun r hr => ⟨vp_in_nI (by omega) (by omega), ?_⟩)
        unfold wpY_cut
        rw [hwd n hnd, hr]
        exact hp
      · -- of a later one
        have g1 : re_gi x (sy x) kd fa sg so pp yo pc V (n + 1) = re_gi x (sy x) kd fa sg so pp yo pc V n := by
          show _ + (if sg n = sy x then _ else _) = _
          rw [if_neg (by omega), Nat.add_zero]
        have g2 : re_ts x (sy x) kd fa sg so pp (n + 1) = re_ts x (sy x) kd fa sg so pp n := by
          show (if sg n = sy x then _ else _) = _
          rw [if_neg (by omega)]
        obtain ⟨b, yts', gi', tr', tg', i1, i2, i3, i4⟩ := ih (n + 1) f tr tg (by omega) (by omega) (fun m hm hsm => by
          by_cases q : m = n
          · subst q; omega
          · exact h1 m (by omega) hsm) (by rw [g2]; exact h2)
        refine ⟨b, yts', gi', tr', tg', i1, i2.trans ⟨fun q m q1 q2 q3 => q m ?_ q2 q3, fun q m q1 q2 q3 => q m (by omega) q2 q3⟩, i3, fun poss hp => ?_⟩
        · rcases Nat.lt_or_ge n m with c | c
          · exact c
          · have e : m = n := by omega
            subst e; omega
        · have i5 := i4 poss hp
          rw [g1, g2] at i5
          simp (disch := omega) only [wY_works_12, forall_eq, ar_Nap, ar_Oap, nI_clamp, nI_leI, nI_ltI, nI_eq, ar_add, ar_mul, ar_in, ar_sub1, ar_ad1, ar_idec, ar_is, ar_ilt, ar_ile, ar_lti, ar_lei, ar_ieq, ar_ien, ar_nei, li_0, li_1, li_2, li_3, li_4, li_5, li_6, li_7, li_8, li_9, li_10, li_12, li_15, li_16, li_17, li_24, li_31, li_50, li_63, li_64, li_100, li_101, li_255, li_1000, li_65535, li_65536, ar_lit1]
          refine ⟨fun q => absurd q (by omega), fun _ => ⟨by omega, by omega, fun q => absurd q (by omega), fun _ => ?_⟩⟩
          exact i5
end
end
section
/-! what is prepared: each side's writes -/
theorem ar_if1 {c : Prop} [Decidable c] {α : Type} {a b : α} (h : c) : (if c then a else b) = a := if_pos h
section
variable {st nd bu nx wk kc1 kc0 kc2 kc3 kc4 kc5 kc6 kc7 gi ad : Nat} {xad xga xto yad yts yga : Int32} {kd sb tc sg wd fa ww so rg ce nm xdn xsn xpr xcl ct nb sy vl pv pc gv dn wo pp yo wh wt wi tr tg cd ws : Nat → Nat} {gs xcd xws xon xgu xlf xrt xlv ybs ycs ywd ycd yws ygu yone ytwo ylv : Nat → Int32} {xtr : Nat → Int64}
variable {post : Int32 → Prop} {posu : SX → Prop} {pos2 : SY → Prop}
theorem xq_prep1 {s t m c d : Nat} (hs : s < 5) (ht : t < 7) (hm : m < 24) (hso : so t = m + 1) (hd : d ≤ 24) (hcd : xcd t = ar_i d) (hc : c ≤ 1) (hc1 : c = 1 ↔ (d = 0 ∨ xsn (24 * s + (d - 1)) ≠ 0)) (hb : d ≠ 0 → xsn (24 * s + (d - 1)) < 2 ^ 31) (h6 : t = 6 → xad = nI ad ∧ ad < 24 ∧ xsn (24 * s + ad) < 2 ^ 31)
    (hp : wX_prepare_105 posu (nI s) (nI t) (nI st) (nI nd) (nI bu) xad (nI nx) xga xto (ar_N kd) (ar_N sb) (ar_N tc) (ar_N sg) (ar_N wd) (ar_N fa) (ar_N ww) gs (ar_O so) xcd xws (ar_N rg) (ar_N ce) (ar_O nm) (if c = 1 then upd xon s (xon s ||| (nI 1 <<< (nI t &&& nI 31))) else xon) xgu (ar_N xdn) (ar_N xsn) (ar_N (ar_u xpr (7 * s + t) (xsn (24 * s + m)))) (ar_N (if t = 6 then ar_u xcl s (xsn (24 * s + ad) % 16) else xcl)) xtr (ar_N ct) xlf xrt xlv) : wpX_prepare posu (nI st, nI nd, nI bu, xad, nI nx, xga, xto, ar_N kd, ar_N sb, ar_N tc, ar_N sg, ar_N wd, ar_N fa, ar_N ww, gs, ar_O so, xcd, xws, ar_N rg, ar_N ce, ar_O nm, xon, xgu, ar_N xdn, ar_N xsn, ar_N xpr, ar_N xcl, xtr, ar_N ct, xlf, xrt, xlv) (nI s) (nI t) := by
  have e24 : ∀ a, 24 * nI s + nI a = nI (24 * s + a) := fun a => by rw [show (24 : Int32) = nI 24 from rfl, ar_mul, ar_add]
  have e7 : 7 * nI s + nI t = nI (7 * s + t) := by rw [show (7 : Int32) = nI 7 from rfl, ar_mul, ar_add]
  have e78 : wX_prepare_78 posu (nI s) (nI t) (24 * nI s) (nI st) (nI nd) (nI bu) xad (nI nx) xga xto (ar_N kd) (ar_N sb) (ar_N tc) (ar_N sg) (ar_N wd) (ar_N fa) (ar_N ww) gs (ar_O so) xcd xws (ar_N rg) (ar_N ce) (ar_O nm) (if c = 1 then upd xon s (xon s ||| (nI 1 <<< (nI t &&& nI 31))) else xon) xgu (ar_N xdn) (ar_N xsn) (ar_N (ar_u xpr (7 * s + t) (xsn (24 * s + m)))) (ar_N xcl) xtr (ar_N ct) xlf xrt xlv := by
    unfold wX_prepare_78
    refine pk_eq t 6 (fun z => ?_) (fun z => ?_)
    · obtain ⟨a1, a2, a3⟩ := h6 z
      rw [if_pos z] at hp
      rw [a1, e24]
      refine ⟨vp_in_nI (by omega) (by omega), vp_in_nI (by omega) (by omega), fun y ey => ?_⟩
      have hl := Nat.mod_lt (xsn (24 * s + ad)) (show 16 > 0 by decide)
      rw [nI_clamp (by omega), nI_clamp (by omega), ar_Nap, show nI (xsn (24 * s + ad)) &&& 15 = nI (xsn (24 * s + ad) % 16) from ar_m15 a3, ar_by _ (by omega), ar_uN] at ey
      rw [ey]
      rw [a1] at hp
      exact hp
    · rw [if_neg z] at hp
      exact hp
  have e35 : wX_prepare_35 posu (nI s) (nI t) (24 * nI s) (nI c) (nI st) (nI nd) (nI bu) xad (nI nx) xga xto (ar_N kd) (ar_N sb) (ar_N tc) (ar_N sg) (ar_N wd) (ar_N fa) (ar_N ww) gs (ar_O so) xcd xws (ar_N rg) (ar_N ce) (ar_O nm) xon xgu (ar_N xdn) (ar_N xsn) (ar_N xpr) (ar_N xcl) xtr (ar_N ct) xlf xrt xlv := by
    unfold wX_prepare_35
    refine ⟨vp_in_nI ht (by omega), ?_⟩
    rw [nI_clamp (by omega), ar_Oap, hso, ar_is, e24, e7]
    refine ⟨vp_in_nI (by omega) (by omega), vp_in_nI (by omega) (by omega), fun y ey => ?_⟩
    rw [nI_clamp (by omega), nI_clamp (by omega), ar_Nap, ar_uN] at ey
    rw [ey]
    refine pk_eq c 0 (fun z => ?_) (fun z => ?_)
    · rw [if_neg (by omega)] at e78
      exact e78
    · rw [if_pos (by omega)] at e78
      refine ⟨vp_in_nI (by omega) (by omega), vp_in_nI (by omega) (by omega), fun w ew => ?_⟩
      rw [nI_clamp (by omega)] at ew
      rw [ew]
      exact e78
  unfold wpX_prepare
  intro y ey
  refine ⟨vp_in_nI ht (by omega), ?_⟩
  rw [nI_clamp (by omega), hcd, ey]
  by_cases z : d = 0
  · refine br_t (by rw [z]; decide) ?_
    have ec : c = 1 := hc1.mpr (Or.inl z)
    rw [ec] at e35
    exact e35
  · obtain ⟨d', rfl⟩ : ∃ d', d = d' + 1 := ⟨d - 1, by omega⟩
    rw [Nat.add_sub_cancel] at hc1 hb
    have hb' := hb (by omega)
    rw [ar_is, e24]
    refine br_f (nI_pos (by omega)) ⟨vp_in_nI ht (by omega), vp_in_nI (by omega) (by omega), ?_⟩
    rw [nI_clamp (by omega), ar_Nap]
    refine pk_eq (xsn (24 * s + d')) 0 (fun q => ?_) (fun q => ?_)
    · have ec : c = 0 := by
        have : ¬ c = 1 := fun h => (hc1.mp h).elim (fun h => by omega) (fun h => h q)
        omega
      rw [ec] at e35
      exact e35
    · have ec : c = 1 := hc1.mpr (Or.inr q)
      rw [ec] at e35
      exact e35
theorem yq_prep1 {x t m c d : Nat} (hs : x < 5) (ht : t < 7) (hm : m < 24) (hso : so t = m + 1) (hd : d ≤ 24) (hcd : ycd t = ar_i d) (hc : c ≤ 1) (hc1 : c = 1 ↔ (d = 0 ∨ vl (24 * x + (d - 1)) ≠ 0)) (hb : d ≠ 0 → vl (24 * x + (d - 1)) < 2 ^ 31) (h6 : t = 6 → yad = nI ad ∧ ad < 24 ∧ vl (24 * x + ad) < 2 ^ 31)
    (hp : wY_prepare_104 pos2 (nI x) (nI t) (nI st) (nI nd) (nI bu) yad (nI wk) (nI nx) (nI kc1) (nI kc0) (nI kc2) (nI kc3) (nI kc4) (nI kc5) (nI kc6) (nI kc7) yts (nI gi) yga (ar_N ww) (ar_N rg) (ar_N ce) gs (ar_N kd) (ar_N fa) ybs ycs (ar_N sg) ywd (ar_O so) ycd yws (ar_N nb) (ar_N sy) (ar_N vl) (ar_N (ar_u pv (7 * x + t) (vl (24 * x + m)))) (ar_N (if t = 6 then ar_u pc x (vl (24 * x + ad) % 16) else pc)) ygu (ar_N gv) (ar_N dn) (ar_N wo) (ar_N (ar_u pp (7 * x + t) 1)) (ar_N (ar_u yo (7 * x + t) c)) (ar_N wh) (ar_N wt) (ar_N wi) (ar_N tr) (ar_N tg) yone ytwo ylv) : wpY_prepare pos2 (nI st, nI nd, nI bu, yad, nI wk, nI nx, nI kc1, nI kc0, nI kc2, nI kc3, nI kc4, nI kc5, nI kc6, nI kc7, yts, nI gi, yga, ar_N ww, ar_N rg, ar_N ce, gs, ar_N kd, ar_N fa, ybs, ycs, ar_N sg, ywd, ar_O so, ycd, yws, ar_N nb, ar_N sy, ar_N vl, ar_N pv, ar_N pc, ygu, ar_N gv, ar_N dn, ar_N wo, ar_N pp, ar_N yo, ar_N wh, ar_N wt, ar_N wi, ar_N tr, ar_N tg, yone, ytwo, ylv) (nI x) (nI t) := by
  have e24 : ∀ a, 24 * nI x + nI a = nI (24 * x + a) := fun a => by rw [show (24 : Int32) = nI 24 from rfl, ar_mul, ar_add]
  have e7 : 7 * nI x + nI t = nI (7 * x + t) := by rw [show (7 : Int32) = nI 7 from rfl, ar_mul, ar_add]
  have e52 : wY_prepare_52 pos2 (nI x) (nI t) (nI (7 * x + t)) (nI c) (nI (7 * x + t)) (nI st) (nI nd) (nI bu) yad (nI wk) (nI nx) (nI kc1) (nI kc0) (nI kc2) (nI kc3) (nI kc4) (nI kc5) (nI kc6) (nI kc7) yts (nI gi) yga (ar_N ww) (ar_N rg) (ar_N ce) gs (ar_N kd) (ar_N fa) ybs ycs (ar_N sg) ywd (ar_O so) ycd yws (ar_N nb) (ar_N sy) (ar_N vl) (ar_N pv) (ar_N pc) ygu (ar_N gv) (ar_N dn) (ar_N wo) (ar_N (ar_u pp (7 * x + t) 1)) (ar_N yo) (ar_N wh) (ar_N wt) (ar_N wi) (ar_N tr) (ar_N tg) yone ytwo ylv := by
    unfold wY_prepare_52
    refine ⟨vp_in_nI (by omega) (by omega), fun y ey => ⟨vp_in_nI ht (by omega), ?_⟩⟩
    rw [nI_clamp (by omega), ar_bo hc, ar_uN] at ey
    rw [nI_clamp (by omega), ar_Oap, hso, ar_is, e24]
    refine ⟨vp_in_nI (by omega) (by omega), vp_in_nI (by omega) (by omega), fun w ew => ?_⟩
    rw [nI_clamp (by omega), nI_clamp (by omega), ar_Nap, ar_uN] at ew
    rw [ey, ew]
    refine pk_eq t 6 (fun z => ?_) (fun z => ?_)
    · obtain ⟨a1, a2, a3⟩ := h6 z
      rw [if_pos z] at hp
      rw [a1, e24]
      refine ⟨vp_in_nI (by omega) (by omega), vp_in_nI (by omega) (by omega), fun q eq => ?_⟩
      rw [nI_clamp (by omega), nI_clamp (by omega), ar_Nap, show nI (vl (24 * x + ad)) &&& 15 = nI (vl (24 * x + ad) % 16) from ar_m15 a3, ar_uN] at eq
      rw [eq]
      rw [a1] at hp
      exact hp
    · rw [if_neg z] at hp
      exact hp
  unfold wpY_prepare
  intro y ey
  rw [ey, e7]
  refine ⟨vp_in_nI (by omega) (by omega), fun w ew => ⟨vp_in_nI ht (by omega), ?_⟩⟩
  rw [nI_clamp (by omega), show (1 : Int32) = nI 1 from rfl, ar_bo1, ar_uN] at ew
  rw [ew, nI_clamp (by omega), hcd]
  by_cases z : d = 0
  · refine br_t (by rw [z]; decide) ?_
    have ec : c = 1 := hc1.mpr (Or.inl z)
    rw [ec] at e52
    exact e52
  · obtain ⟨d', rfl⟩ : ∃ d', d = d' + 1 := ⟨d - 1, by omega⟩
    rw [Nat.add_sub_cancel] at hc1 hb
    have hb' := hb (by omega)
    rw [ar_is, e24]
    refine br_f (nI_pos (by omega)) ⟨vp_in_nI ht (by omega), vp_in_nI (by omega) (by omega), ?_⟩
    rw [nI_clamp (by omega), ar_Nap]
    refine pk_eq (vl (24 * x + d')) 0 (fun q => ?_) (fun q => ?_)
    · have ec : c = 0 := by
        have : ¬ c = 1 := fun h => (hc1.mp h).elim (fun h => by omega) (fun h => h q)
        omega
      rw [ec] at e52
      exact e52
    · have ec : c = 1 := hc1.mpr (Or.inr q)
      rw [ec] at e52
      exact e52
end
end
section
/-! what was guessed is known now: both sides in lockstep -/
section
variable {st nd bu nx wk kc1 kc0 kc2 kc3 kc4 kc5 kc6 kc7 gi ad : Nat} {xad xga xto yad yts yga : Int32} {kd sb tc sg wd fa ww so rg ce nm xdn xsn xpr xcl ct nb sy vl pv pc gv dn wo pp yo wh wt wi tr tg cd ws : Nat → Nat} {gs xcd xws xon xgu xlf xrt xlv ybs ycs ywd ycd yws ygu yone ytwo ylv : Nat → Int32} {xtr : Nat → Int64}
variable {n0 : Nat → Nat}
theorem re_Qp {x t m c : Nat} (hO : re_O st wk nx (ct 1) nm nb sy) (hQ : re_Q wk ww sy xon xpr xcl pv pc pp yo) (hx : x < wk) (ht : t < 7) (hp0 : pp (7 * x + t) ≠ 1) (hc : c ≤ 1) (hv : xsn (24 * sy x + m) = vl (24 * x + m) ∧ vl (24 * x + m) < 2 ^ (if t = 6 then 8 else ww t)) (h6 : t = 6 → xsn (24 * sy x + ad) = vl (24 * x + ad)) :
    re_Q wk ww sy (if c = 1 then upd xon (sy x) (xon (sy x) ||| (nI 1 <<< (nI t &&& nI 31))) else xon) (ar_u xpr (7 * sy x + t) (xsn (24 * sy x + m))) (if t = 6 then ar_u xcl (sy x) (xsn (24 * sy x + ad) % 16) else xcl) (ar_u pv (7 * x + t) (vl (24 * x + m))) (if t = 6 then ar_u pc x (vl (24 * x + ad) % 16) else pc) (ar_u pp (7 * x + t) 1) (ar_u yo (7 * x + t) c) := by
  have hb : ∀ i, i < 32 → bt ((if c = 1 then upd xon (sy x) (xon (sy x) ||| (nI 1 <<< (nI t &&& nI 31))) else xon) (sy x)) i = (bt (xon (sy x)) i || (decide (c = 1) && decide (i = t))) := by
    intro i hi
    by_cases z : c = 1
    · rw [if_pos z, pk_us, ar_bto _ (by omega) hi]; simp [z]
    · rw [if_neg z]; simp [z]
  have hbo : ∀ s, s ≠ sy x → (if c = 1 then upd xon (sy x) (xon (sy x) ||| (nI 1 <<< (nI t &&& nI 31))) else xon) s = xon s := by
    intro s hs
    by_cases z : c = 1
    · rw [if_pos z, pk_un hs]
    · rw [if_neg z]
  refine ⟨fun x' hx' t' ht' => ?_, fun x' hx' hpp => ?_, fun i => ?_⟩
  · obtain ⟨q1, q2, q3, q4⟩ := hQ.1 x' hx' t' ht'
    by_cases ex : x' = x
    · subst ex
      rw [hb t' (by omega)]
      by_cases et : t' = t
      · subst et
        rw [ar_us, ar_us, ar_us, ar_us]
        have hf : bt (xon (sy x')) t' = false := ts_nt (fun q => hp0 (q3.mp q).1)
        refine ⟨by omega, hc, ?_, fun _ => hv⟩
        rw [hf]
        simp
      · rw [ar_un (by omega), ar_un (by omega), ar_un (by omega), ar_un (by omega)]
        refine ⟨q1, q2, ?_, q4⟩
        rw [← q3]
        simp [et]
    · have hs : sy x' ≠ sy x := fun q => ex (re_inj hO hx' hx q)
      rw [hbo _ hs, ar_un (by omega), ar_un (by omega), ar_un (by omega), ar_un (by omega)]
      exact ⟨q1, q2, q3, q4⟩
  · by_cases z : t = 6
    · rw [if_pos z, if_pos z]
      by_cases ex : x' = x
      · subst ex
        rw [ar_us, ar_us, h6 z]
        exact ⟨rfl, Nat.mod_lt _ (by decide)⟩
      · have hs : sy x' ≠ sy x := fun q => ex (re_inj hO hx' hx q)
        rw [ar_un (by omega)] at hpp
        rw [ar_un hs, ar_un ex]
        exact hQ.2.1 x' hx' hpp
    · rw [if_neg z, if_neg z]
      rw [ar_un (by omega)] at hpp
      exact hQ.2.1 x' hx' hpp
  · obtain ⟨this, that⟩ := hQ.2.2 i
    constructor
    · by_cases z : t = 6
      · rw [if_pos z]
        unfold ar_u
        by_cases q : i = sy x
        · rw [if_pos q]; exact Nat.mod_lt _ (by decide)
        · rw [if_neg q]; exact this
      · rw [if_neg z]; exact this
    · unfold ar_u
      by_cases q : i = 7 * x + t
      · rw [if_pos q]; exact hc
      · rw [if_neg q]; exact that
/-- those behind one are gone -/
theorem re_Osq {y : Nat} (hO : re_O st wk nx (ct 1) nm nb sy) (hst : st ≤ 5) (hy : y < wk) : re_O st y (nb y) (ct 1) (ar_clr nm 0 (sy y + 1)) nb sy := by
  refine ⟨fun x hx => hO.1 x (by omega), fun x hx => hO.2.1 x (by omega), fun x hx => ?_, fun s => ⟨fun h5 hs => ?_, fun h5 => ?_⟩, (hO.2.2.1 y hy).2⟩
  · have := re_lt hO hx hy
    unfold ar_clr
    rw [if_neg (by omega)]
    exact hO.2.2.1 x (by omega)
  · unfold ar_clr
    by_cases z : 0 ≤ s ∧ s < 0 + (sy y + 1)
    · rw [if_pos z]
    · rw [if_neg z]
      rcases re_who hO h5 with q | ⟨x, hx, e⟩
      · exact q
      · rcases Nat.lt_or_ge x y with c | c
        · exact absurd e (hs x c)
        · rcases Nat.lt_or_ge y x with c2 | c2
          · have := re_lt hO c2 hx; omega
          · have : x = y := by omega
            subst this; omega
  · have := hO.1 y hy
    unfold ar_clr
    rw [if_neg (by omega)]
    exact (hO.2.2.2.1 s).2 h5
theorem re_Vsq {y : Nat} {g : Int32} (hV : re_V nd wk kd fa sg wd sy gs xgu ygu xdn dn xsn vl wo gv) (hy : y < wk) : re_V nd y kd fa sg wd sy gs xgu (upd ygu y g) xdn dn xsn vl wo gv := by
  refine ⟨fun x hx => ?_, fun x hx => hV.2.1 x (by omega), fun x hx => hV.2.2.1 x (by omega), fun x hx => ?_⟩
  · rw [pk_un (by omega)]; exact hV.1 x (by omega)
  · rw [pk_un (by omega)]; exact hV.2.2.2 x (by omega)
theorem re_Vrt {y t : Nat} (hO : re_O st wk nx (ct 1) nm nb sy) (hV : re_V nd wk kd fa sg wd sy gs xgu ygu xdn dn xsn vl wo gv) (hy : y < wk) (ht : t < 6) : re_V nd wk kd fa sg wd sy gs (upd xgu (sy y) (xgu (sy y) &&& ((nI 1 <<< (nI t &&& nI 31)) ^^^ ar_i 0))) (upd ygu y (ygu y &&& ((nI 1 <<< (nI t &&& nI 31)) ^^^ ar_i 0))) xdn dn xsn vl wo gv := by
  refine ⟨fun x hx => ?_, hV.2.1, hV.2.2.1, fun x hx r hr hb => ?_⟩
  · obtain ⟨v1, v2, v3, v4⟩ := hV.1 x hx
    by_cases ex : x = y
    · subst ex
      rw [pk_us, pk_us, v3, ar_btx _ (by omega) (by omega), v4]
      exact ⟨v1, v2, rfl, rfl⟩
    · have hs : sy x ≠ sy y := fun q => ex (re_inj hO hx hy q)
      rw [pk_un hs, pk_un ex]
      exact ⟨v1, v2, v3, v4⟩
  · by_cases ex : x = y
    · subst ex
      rw [pk_us, ar_btx _ (by omega) (by omega)] at hb
      refine hV.2.2.2 x hx r hr ?_
      cases h : bt (ygu x) r
      · rw [h] at hb; cases hb
      · rfl
    · rw [pk_un ex] at hb
      exact hV.2.2.2 x hx r hr hb
theorem pr_check {x t : Nat} (hM : re_M st nd kd fa sb tc sg wd ww so cd ws ad gs xcd xws ycd yws ybs ycs xad yad) (hF : re_F st nd kd fa sb tc sg wd ww so cd ws ad gs) (hO : re_O st wk nx (ct 1) nm nb sy) (hV : re_V nd wk kd fa sg wd sy gs xgu ygu xdn dn xsn vl wo gv) (hQ : re_Q wk ww sy xon xpr xcl pv pc pp yo) (hN : re_N0 nd kd fa gs n0) (hc : ct 1 + wk < 2 ^ 31) (hx : x < wk) (ht : t < 7) (hso : so t ≠ 0) (hpp : ∀ j, j ≤ x → pp (7 * j + t) = 1) :
    ∃ (nm' : Nat → Nat) (nx' : Nat) (xgu' ygu' : Nat → Int32) (wk' gi' : Nat) (ct' : Nat → Nat), x < wk' ∧ wk' ≤ wk ∧ ct' 1 = ct 1 ∧ ct' 7 = ct 7 ∧
      re_O st wk' nx' (ct' 1) nm' nb sy ∧ re_V nd wk' kd fa sg wd sy gs xgu' ygu' xdn dn xsn vl wo gv ∧
      (∀ posu : SX → Prop, posu (nI st, nI nd, nI bu, xad, nI nx', xga, xto, ar_N kd, ar_N sb, ar_N tc, ar_N sg, ar_N wd, ar_N fa, ar_N ww, gs, ar_O so, xcd, xws, ar_N rg, ar_N ce, ar_O nm', xon, xgu', ar_N xdn, ar_N xsn, ar_N xpr, ar_N xcl, xtr, ar_N ct', xlf, xrt, xlv) → wX_prepare_105 posu (nI (sy x)) (nI t) (nI st) (nI nd) (nI bu) xad (nI nx) xga xto (ar_N kd) (ar_N sb) (ar_N tc) (ar_N sg) (ar_N wd) (ar_N fa) (ar_N ww) gs (ar_O so) xcd xws (ar_N rg) (ar_N ce) (ar_O nm) xon xgu (ar_N xdn) (ar_N xsn) (ar_N xpr) (ar_N xcl) xtr (ar_N ct) xlf xrt xlv) ∧
      (∀ pos2 : SY → Prop, pos2 (nI st, nI nd, nI bu, yad, nI wk', nI nx', nI (ct' 1), nI (ct' 0), nI (ct' 2), nI (ct' 3), nI (ct' 4), nI (ct' 5), nI (ct' 6), nI (ct' 7), yts, nI gi', yga, ar_N ww, ar_N rg, ar_N ce, gs, ar_N kd, ar_N fa, ybs, ycs, ar_N sg, ywd, ar_O so, ycd, yws, ar_N nb, ar_N sy, ar_N vl, ar_N pv, ar_N pc, ygu', ar_N gv, ar_N dn, ar_N wo, ar_N pp, ar_N yo, ar_N wh, ar_N wt, ar_N wi, ar_N tr, ar_N tg, yone, ytwo, ylv) → wY_prepare_104 pos2 (nI x) (nI t) (nI st) (nI nd) (nI bu) yad (nI wk) (nI nx) (nI (ct 1)) (nI (ct 0)) (nI (ct 2)) (nI (ct 3)) (nI (ct 4)) (nI (ct 5)) (nI (ct 6)) (nI (ct 7)) yts (nI gi) yga (ar_N ww) (ar_N rg) (ar_N ce) gs (ar_N kd) (ar_N fa) ybs ycs (ar_N sg) ywd (ar_O so) ycd yws (ar_N nb) (ar_N sy) (ar_N vl) (ar_N pv) (ar_N pc) ygu (ar_N gv) (ar_N dn) (ar_N wo) (ar_N pp) (ar_N yo) (ar_N wh) (ar_N wt) (ar_N wi) (ar_N tr) (ar_N tg) yone ytwo ylv) := by
  have hst := hM.1
  have hwk := re_wk hO
  have hs := hO.1 x hx
  -- nothing is to be checked
  have same : (x + 1 < wk → bt (ygu (x + 1)) t = false) → ∃ (nm' : Nat → Nat) (nx' : Nat) (xgu' ygu' : Nat → Int32) (wk' gi' : Nat) (ct' : Nat → Nat), x < wk' ∧ wk' ≤ wk ∧ ct' 1 = ct 1 ∧ ct' 7 = ct 7 ∧
      re_O st wk' nx' (ct' 1) nm' nb sy ∧ re_V nd wk' kd fa sg wd sy gs xgu' ygu' xdn dn xsn vl wo gv ∧
      (∀ posu : SX → Prop, posu (nI st, nI nd, nI bu, xad, nI nx', xga, xto, ar_N kd, ar_N sb, ar_N tc, ar_N sg, ar_N wd, ar_N fa, ar_N ww, gs, ar_O so, xcd, xws, ar_N rg, ar_N ce, ar_O nm', xon, xgu', ar_N xdn, ar_N xsn, ar_N xpr, ar_N xcl, xtr, ar_N ct', xlf, xrt, xlv) → wX_prepare_105 posu (nI (sy x)) (nI t) (nI st) (nI nd) (nI bu) xad (nI nx) xga xto (ar_N kd) (ar_N sb) (ar_N tc) (ar_N sg) (ar_N wd) (ar_N fa) (ar_N ww) gs (ar_O so) xcd xws (ar_N rg) (ar_N ce) (ar_O nm) xon xgu (ar_N xdn) (ar_N xsn) (ar_N xpr) (ar_N xcl) xtr (ar_N ct) xlf xrt xlv) ∧
      (∀ pos2 : SY → Prop, pos2 (nI st, nI nd, nI bu, yad, nI wk', nI nx', nI (ct' 1), nI (ct' 0), nI (ct' 2), nI (ct' 3), nI (ct' 4), nI (ct' 5), nI (ct' 6), nI (ct' 7), yts, nI gi', yga, ar_N ww, ar_N rg, ar_N ce, gs, ar_N kd, ar_N fa, ybs, ycs, ar_N sg, ywd, ar_O so, ycd, yws, ar_N nb, ar_N sy, ar_N vl, ar_N pv, ar_N pc, ygu', ar_N gv, ar_N dn, ar_N wo, ar_N pp, ar_N yo, ar_N wh, ar_N wt, ar_N wi, ar_N tr, ar_N tg, yone, ytwo, ylv) → wY_prepare_104 pos2 (nI x) (nI t) (nI st) (nI nd) (nI bu) yad (nI wk) (nI nx) (nI (ct 1)) (nI (ct 0)) (nI (ct 2)) (nI (ct 3)) (nI (ct 4)) (nI (ct 5)) (nI (ct 6)) (nI (ct 7)) yts (nI gi) yga (ar_N ww) (ar_N rg) (ar_N ce) gs (ar_N kd) (ar_N fa) ybs ycs (ar_N sg) ywd (ar_O so) ycd yws (ar_N nb) (ar_N sy) (ar_N vl) (ar_N pv) (ar_N pc) ygu (ar_N gv) (ar_N dn) (ar_N wo) (ar_N pp) (ar_N yo) (ar_N wh) (ar_N wt) (ar_N wi) (ar_N tr) (ar_N tg) yone ytwo ylv) := by
    intro hb
    refine ⟨nm, nx, xgu, ygu, wk, gi, ct, hx, Nat.le_refl _, rfl, rfl, hO, hV, fun posu hp => ?_, fun pos2 hp => ?_⟩
    · unfold wX_prepare_105
      refine xq_younger hO hst.2.1 hc hx ?_
      unfold re_yg
      by_cases z : x + 1 < wk
      · have hsy := hO.1 (x + 1) z
        rw [if_pos z, ar_is]
        refine br_f (nI_pos (by omega)) ⟨vp_in_nI (by omega) (by omega), ?_⟩
        rw [nI_clamp (by omega)]
        refine br_t ?_ hp
        rw [(hV.1 (x + 1) z).2.2.1]
        exact (ar_btm _ (by omega)).mpr (hb z)
      · rw [if_neg z]
        exact br_t (by decide) hp
    · unfold wY_prepare_104
      intro y ey
      rw [nI_1] at ey
      rw [ey]
      refine pk_eq t 6 (fun _ => hp) (fun h6 => ?_)
      refine pk_le wk (x + 1) (fun _ => hp) (fun z => ⟨vp_in_nI (by omega) (by omega), ?_⟩)
      rw [nI_clamp (by omega)]
      exact br_t ((ar_bt0 _ (by omega)).mpr (hb z)) hp
  by_cases z : x + 1 < wk ∧ bt (ygu (x + 1)) t = true
  · obtain ⟨z1, z2⟩ := z
    have hsy := hO.1 (x + 1) z1
    have t6 : t < 6 := by
      rcases Nat.lt_or_ge t 6 with q | q
      · exact q
      · have e : t = 6 := by omega
        rw [e, (hV.1 (x + 1) z1).2.2.2] at z2
        cases z2
    obtain ⟨hg, hd, hgv⟩ := hV.2.2.2 (x + 1) z1 t t6 z2
    obtain ⟨n1, n2, n3, n4⟩ := hN t t6 hg
    have hs0 := (hF.2.2 t t6 hg).2.2 (n0 t) n1 n2 n3
    have hav : re_av (sg (n0 t)) (sy (x + 1)) (dn (x + 1)) := by
      unfold re_av; omega
    have hxs := (hV.2.1 (x + 1) z1 (n0 t) n1 hav).1
    have hvg := hgv (n0 t) n1 n2 n3
    -- the component's walk up to the comparison
    have wX : ∀ posu : SX → Prop, ((nI (gv (6 * (x + 1) + t)) = nI (re_lk so pp yo pc pv rg ce t 0 (x + 1)) → posu (nI st, nI nd, nI bu, xad, nI nx, xga, xto, ar_N kd, ar_N sb, ar_N tc, ar_N sg, ar_N wd, ar_N fa, ar_N ww, gs, ar_O so, xcd, xws, ar_N rg, ar_N ce, ar_O nm, xon, upd xgu (sy (x + 1)) (xgu (sy (x + 1)) &&& ((nI 1 <<< (nI t &&& nI 31)) ^^^ ar_i 0)), ar_N xdn, ar_N xsn, ar_N xpr, ar_N xcl, xtr, ar_N (ar_u ct 4 (ct 4 + 1)), xlf, xrt, xlv)) ∧ (¬ nI (gv (6 * (x + 1) + t)) = nI (re_lk so pp yo pc pv rg ce t 0 (x + 1)) → posu (nI st, nI nd, nI bu, xad, nI (nb (x + 1)), xga, xto, ar_N kd, ar_N sb, ar_N tc, ar_N sg, ar_N wd, ar_N fa, ar_N ww, gs, ar_O so, xcd, xws, ar_N rg, ar_N ce, ar_O (ar_clr nm 0 (sy (x + 1) + 1)), xon, xgu, ar_N xdn, ar_N xsn, ar_N xpr, ar_N xcl, xtr, ar_N (ar_u (ar_u ct 5 (ct 5 + 1)) 6 (ct 6 + (wk - (x + 1)))), xlf, xrt, xlv))) → wX_prepare_105 posu (nI (sy x)) (nI t) (nI st) (nI nd) (nI bu) xad (nI nx) xga xto (ar_N kd) (ar_N sb) (ar_N tc) (ar_N sg) (ar_N wd) (ar_N fa) (ar_N ww) gs (ar_O so) xcd xws (ar_N rg) (ar_N ce) (ar_O nm) xon xgu (ar_N xdn) (ar_N xsn) (ar_N xpr) (ar_N xcl) xtr (ar_N ct) xlf xrt xlv := by
      intro posu hp
      unfold wX_prepare_105
      refine xq_younger hO hst.2.1 hc hx ?_
      unfold re_yg
      rw [if_pos z1, ar_is]
      refine br_f (nI_pos (by omega)) ⟨vp_in_nI (by omega) (by omega), ?_⟩
      rw [nI_clamp (by omega)]
      refine br_f (fun q => ?_) ?_
      · rw [(hV.1 (x + 1) z1).2.2.1] at q
        rw [(ar_btm _ (by omega)).mp q] at z2
        cases z2
      unfold wpX_check
      refine xq_readOf (s := sy (x + 1)) (r := t) (by omega) (by omega) (by omega) (fun j hj => ?_) n2 n3 n4 ?_
      · obtain ⟨b1, b2, b3, b4, -⟩ := hM.2.1 j (by omega)
        omega
      rw [hxs, hvg]
      refine xq_look (x := x + 1) (t := t) (k := 0) hM hO hQ hc z1 ht (by omega) ?_
      refine ⟨fun q => ?_, fun q => ?_⟩
      · refine ⟨vp_in_nI (by omega) (by omega), vp_in_nI (by omega) (by omega), fun y ey w ew => ?_⟩
        rw [nI_clamp (by omega)] at ey
        rw [ar_Nap, nI_1, ar_uN] at ew
        rw [ey, ew]
        exact hp.1 q
      · intro y ey
        rw [ar_Nap, nI_1, ar_uN] at ey
        refine ⟨vp_in_nI (by omega) (by omega), fun w ew => ?_⟩
        rw [nI_clamp (by omega), ar_Oap, (hO.2.2.1 (x + 1) z1).1, ar_is] at ew
        rw [ey, ew]
        refine xq_empty (h := sy (x + 1) + 1) (by omega) (re_nmb hO hc) ?_
        intro v ev
        rw [re_cnt hO hst.2.1 (wk - (x + 1) - 1) (x + 1) (by omega), show wk - (x + 1) - 1 + 1 = wk - (x + 1) by omega, ar_Nap, ar_un (by decide), ar_add, ar_uN] at ev
        rw [ev]
        exact hp.2 q
    have wY : ∀ pos2 : SY → Prop, ((nI (gv (6 * (x + 1) + t)) = nI (re_lk so pp yo pc pv rg ce t 0 (x + 1)) → pos2 (nI st, nI nd, nI bu, yad, nI wk, nI nx, nI (ct 1), nI (ct 0), nI (ct 2), nI (ct 3), nI (ct 4 + 1), nI (ct 5), nI (ct 6), nI (ct 7), yts, nI (gi + re_h1 (re_gv so pp yo pc t 0 (x + 1))), yga, ar_N ww, ar_N rg, ar_N ce, gs, ar_N kd, ar_N fa, ybs, ycs, ar_N sg, ywd, ar_O so, ycd, yws, ar_N nb, ar_N sy, ar_N vl, ar_N pv, ar_N pc, upd ygu (x + 1) (ygu (x + 1) &&& ((nI 1 <<< (nI t &&& nI 31)) ^^^ ar_i 0)), ar_N gv, ar_N dn, ar_N wo, ar_N pp, ar_N yo, ar_N wh, ar_N wt, ar_N wi, ar_N tr, ar_N tg, yone, ytwo, ylv)) ∧ (¬ nI (gv (6 * (x + 1) + t)) = nI (re_lk so pp yo pc pv rg ce t 0 (x + 1)) → pos2 (nI st, nI nd, nI bu, yad, nI (x + 1), nI (nb (x + 1)), nI (ct 1), nI (ct 0), nI (ct 2), nI (ct 3), nI (ct 4), nI (ct 5 + 1), nI (ct 6 + (wk - (x + 1))), nI (ct 7), yts, nI (gi + re_h1 (re_gv so pp yo pc t 0 (x + 1))), yga, ar_N ww, ar_N rg, ar_N ce, gs, ar_N kd, ar_N fa, ybs, ycs, ar_N sg, ywd, ar_O so, ycd, yws, ar_N nb, ar_N sy, ar_N vl, ar_N pv, ar_N pc, upd ygu (x + 1) (ygu (x + 1) &&& ((nI 1 <<< (nI t &&& nI 31)) ^^^ ar_i 0)), ar_N gv, ar_N dn, ar_N wo, ar_N pp, ar_N yo, ar_N wh, ar_N wt, ar_N wi, ar_N tr, ar_N tg, yone, ytwo, ylv))) → wY_prepare_104 pos2 (nI x) (nI t) (nI st) (nI nd) (nI bu) yad (nI wk) (nI nx) (nI (ct 1)) (nI (ct 0)) (nI (ct 2)) (nI (ct 3)) (nI (ct 4)) (nI (ct 5)) (nI (ct 6)) (nI (ct 7)) yts (nI gi) yga (ar_N ww) (ar_N rg) (ar_N ce) gs (ar_N kd) (ar_N fa) ybs ycs (ar_N sg) ywd (ar_O so) ycd yws (ar_N nb) (ar_N sy) (ar_N vl) (ar_N pv) (ar_N pc) ygu (ar_N gv) (ar_N dn) (ar_N wo) (ar_N pp) (ar_N yo) (ar_N wh) (ar_N wt) (ar_N wi) (ar_N tr) (ar_N tg) yone ytwo ylv := by
      intro pos2 hp
      unfold wY_prepare_104
      intro y ey
      rw [nI_1] at ey
      rw [ey]
      refine br_f (by rw [show (6 : Int32) = nI 6 from rfl, nI_eq (by omega) (by omega)]; omega) ?_
      refine br_f (nI_ge (by omega) (by omega)) ⟨vp_in_nI (by omega) (by omega), ?_⟩
      rw [nI_clamp (by omega)]
      refine br_f (fun q => ?_) ?_
      · rw [(ar_bt0 _ (by omega)).mp q] at z2
        cases z2
      refine yq_registerK (x := x + 1) (r := t) hM hO hQ z1 t6 (fun _ j hj => hpp j (by omega)) ?_
      refine ⟨vp_in_nI (by omega) (by omega), vp_in_nI (by omega) (by omega), fun w ew => ?_⟩
      rw [ew, show (6 : Int32) * nI (x + 1) + nI t = nI (6 * (x + 1) + t) by rw [show (6 : Int32) = nI 6 from rfl, ar_mul, ar_add]]
      refine ⟨vp_in_nI (by omega) (by omega), ?_⟩
      rw [nI_clamp (by omega), ar_Nap]
      refine br_c (fun q v ev => ?_) (fun q v ev u eu => ⟨vp_in_nI (by omega) (by omega), fun a ea => ?_⟩)
      · rw [nI_1] at ev
        rw [ev]
        exact hp.1 q.symm
      · rw [nI_1] at ev
        rw [pk_sub (by omega), ar_add] at eu
        rw [ar_Nap] at ea
        rw [ev, eu, ea]
        exact hp.2 (fun h => q h.symm)
    by_cases e : nI (gv (6 * (x + 1) + t)) = nI (re_lk so pp yo pc pv rg ce t 0 (x + 1))
    · refine ⟨nm, nx, _, _, wk, _, ar_u ct 4 (ct 4 + 1), hx, Nat.le_refl _, rfl, rfl, hO, re_Vrt hO hV z1 t6, fun posu hp => wX posu ⟨fun _ => hp, fun q => absurd e q⟩, fun pos2 hp => wY pos2 ⟨fun _ => hp, fun q => absurd e q⟩⟩
    · refine ⟨_, nb (x + 1), xgu, _, x + 1, _, ar_u (ar_u ct 5 (ct 5 + 1)) 6 (ct 6 + (wk - (x + 1))), by omega, by omega, rfl, rfl, re_Osq hO hst.2.1 z1, re_Vsq hV z1, fun posu hp => wX posu ⟨fun q => absurd q e, fun _ => hp⟩, fun pos2 hp => wY pos2 ⟨fun q => absurd q e, fun _ => hp⟩⟩
  · refine same (fun h => ?_)
    exact ts_nt (fun q => z ⟨h, q⟩)
end
end
section
/-! the work is carried out: the reference -/
section
variable {st nd bu nx wk kc1 kc0 kc2 kc3 kc4 kc5 kc6 kc7 gi ad : Nat} {xad xga xto yad yts yga : Int32} {kd sb tc sg wd fa ww so rg ce nm xdn xsn xpr xcl ct nb sy vl pv pc gv dn wo pp yo wh wt wi tr tg cd ws : Nat → Nat} {gs xcd xws xon xgu xlf xrt xlv ybs ycs ywd ycd yws ygu yone ytwo ylv : Nat → Int32} {xtr : Nat → Int64}
variable {pos2 : SY → Prop}
theorem yq_carry28 {x : Nat} (hx : x < 5) : ∀ d r (gv : Nat → Nat), r + d = 6 → ∃ gv' : Nat → Nat, (∀ i, i < 6 * x + r ∨ 6 * x + 6 ≤ i → gv' i = gv i) ∧ (∀ q, r ≤ q → q < 6 → gv' (6 * x + q) = if bt yts q = true then tg q else gv (6 * x + q)) ∧
    ∀ pos2 : SY → Prop, (∃ f, wY_carryOut_70 pos2 (nI x) (nI st) (nI nd) (nI bu) yad (nI wk) (nI nx) (nI kc1) (nI kc0) (nI kc2) (nI kc3) (nI kc4) (nI kc5) (nI kc6) (nI kc7) yts (nI gi) yga f (nI 0) (ar_N ww) (ar_N rg) (ar_N ce) gs (ar_N kd) (ar_N fa) ybs ycs (ar_N sg) ywd (ar_O so) ycd yws (ar_N nb) (ar_N sy) (ar_N vl) (ar_N pv) (ar_N pc) ygu (ar_N gv') (ar_N dn) (ar_N wo) (ar_N pp) (ar_N yo) (ar_N wh) (ar_N wt) (ar_N wi) (ar_N tr) (ar_N tg) yone ytwo ylv) → wY_carryOut_28 pos2 (nI x) (nI st) (nI nd) (nI bu) yad (nI wk) (nI nx) (nI kc1) (nI kc0) (nI kc2) (nI kc3) (nI kc4) (nI kc5) (nI kc6) (nI kc7) yts (nI gi) yga (d + 1) (nI r) (ar_N ww) (ar_N rg) (ar_N ce) gs (ar_N kd) (ar_N fa) ybs ycs (ar_N sg) ywd (ar_O so) ycd yws (ar_N nb) (ar_N sy) (ar_N vl) (ar_N pv) (ar_N pc) ygu (ar_N gv) (ar_N dn) (ar_N wo) (ar_N pp) (ar_N yo) (ar_N wh) (ar_N wt) (ar_N wi) (ar_N tr) (ar_N tg) yone ytwo ylv := by
  intro d
  induction d with
  | zero =>
    intro r gv hr
    refine ⟨gv, fun _ _ => rfl, fun q h1 h2 => absurd h2 (by omega), fun pos2 hp => ?_⟩
    rw [wY_carryOut_28]
    exact br_t (nI_le (a := 6) (by omega) (by omega)) hp
  | succ d ih =>
    intro r gv hr
    by_cases z : bt yts r = true
    · obtain ⟨gv', h1, h2, h3⟩ := ih (r + 1) (ar_u gv (6 * x + r) (tg r)) (by omega)
      refine ⟨gv', fun i hi => ?_, fun q q1 q2 => ?_, fun pos2 hp => ?_⟩
      · rw [h1 i (by omega), ar_un (by omega)]
      · by_cases e : q = r
        · subst e
          rw [h1 _ (by omega), ar_us, if_pos z]
        · rw [h2 q (by omega) q2, ar_un (by omega)]
      · rw [wY_carryOut_28]
        refine br_f (nI_ge (b := 6) (by omega) (by omega)) ?_
        refine br_f (fun q => ?_) ⟨vp_in_nI (by omega) (by omega), ?_⟩
        · rw [(ar_bt0 _ (by omega)).mp q] at z; cases z
        rw [show (6 : Int32) * nI x + nI r = nI (6 * x + r) by rw [show (6 : Int32) = nI 6 from rfl, ar_mul, ar_add]]
        refine ⟨vp_in_nI (by omega) (by omega), fun y ey w ew => ?_⟩
        rw [nI_clamp (by omega), nI_clamp (by omega), ar_Nap, ar_uN] at ey
        rw [ey, ew, nI_1]
        exact h3 pos2 hp
    · obtain ⟨gv', h1, h2, h3⟩ := ih (r + 1) gv (by omega)
      refine ⟨gv', fun i hi => h1 i (by omega), fun q q1 q2 => ?_, fun pos2 hp => ?_⟩
      · by_cases e : q = r
        · subst e
          rw [h1 _ (by omega), if_neg z]
        · exact h2 q (by omega) q2
      · rw [wY_carryOut_28]
        refine br_f (nI_ge (b := 6) (by omega) (by omega)) ?_
        refine br_t ((ar_bt0 _ (by omega)).mpr (ts_nt z)) (fun w ew => ?_)
        rw [ew, nI_1]
        exact h3 pos2 hp
theorem yq_carry70 {x : Nat} (hx : x < 5) (hd : nd ≤ 24) (hs : sy x < 5) (hsg : ∀ n, n < nd → sg n ≤ 4) (hp : ∃ f, wY_carryOut_140 pos2 (nI x) f (nI 0) (nI st) (nI nd) (nI bu) yad (nI wk) (nI nx) (nI kc1) (nI kc0) (nI kc2) (nI kc3) (nI kc4) (nI kc5) (nI kc6) (nI kc7) yts (nI gi) yga (ar_N ww) (ar_N rg) (ar_N ce) gs (ar_N kd) (ar_N fa) ybs ycs (ar_N sg) ywd (ar_O so) ycd yws (ar_N nb) (ar_N sy) (ar_N (re_pt (24 * x) sg (sy x) tr nd vl)) (ar_N pv) (ar_N pc) ygu (ar_N gv) (ar_N (ar_u dn x 1)) (ar_N (re_pt (24 * x) sg (sy x) (fun _ => 1) nd wo)) (ar_N pp) (ar_N yo) (ar_N wh) (ar_N wt) (ar_N wi) (ar_N tr) (ar_N tg) yone ytwo ylv) : ∀ d n, n + d = nd → wY_carryOut_70 pos2 (nI x) (nI st) (nI nd) (nI bu) yad (nI wk) (nI nx) (nI kc1) (nI kc0) (nI kc2) (nI kc3) (nI kc4) (nI kc5) (nI kc6) (nI kc7) yts (nI gi) yga (d + 1) (nI n) (ar_N ww) (ar_N rg) (ar_N ce) gs (ar_N kd) (ar_N fa) ybs ycs (ar_N sg) ywd (ar_O so) ycd yws (ar_N nb) (ar_N sy) (ar_N (re_pt (24 * x) sg (sy x) tr n vl)) (ar_N pv) (ar_N pc) ygu (ar_N gv) (ar_N dn) (ar_N (re_pt (24 * x) sg (sy x) (fun _ => 1) n wo)) (ar_N pp) (ar_N yo) (ar_N wh) (ar_N wt) (ar_N wi) (ar_N tr) (ar_N tg) yone ytwo ylv := by
  intro d
  induction d with
  | zero =>
    intro n hn
    have e : n = nd := by omega
    subst e
    rw [wY_carryOut_70]
    refine br_t (nI_le (by omega) (by omega)) ⟨vp_in_nI (by omega) (by omega), fun y ey => ?_⟩
    rw [nI_clamp (by omega), show (1 : Int32) = nI 1 from rfl, ar_bo1, ar_uN] at ey
    rw [ey]
    exact hp
  | succ d ih =>
    intro n hn
    have i1 := ih (n + 1) (by omega)
    have h4 := hsg n (by omega)
    rw [wY_carryOut_70]
    refine br_f (nI_ge (by omega) (by omega)) ⟨vp_in_nI (by omega) (by omega), vp_in_nI (by omega) (by omega), ?_⟩
    rw [nI_clamp (by omega), nI_clamp (by omega), ar_Nap, ar_Nap]
    refine pk_eq (sg n) (sy x) (fun z => ⟨vp_in_nI (by omega) (by omega), ?_⟩) (fun z w ew => ?_)
    · rw [show (24 : Int32) * nI x + nI n = nI (24 * x + n) by rw [show (24 : Int32) = nI 24 from rfl, ar_mul, ar_add]]
      refine ⟨vp_in_nI (by omega) (by omega), fun y ey => ⟨vp_in_nI (by omega) (by omega), fun v ev w ew => ?_⟩⟩
      rw [nI_clamp (by omega), ar_Nap, ar_uN, re_ptT z] at ey
      rw [nI_clamp (by omega), show (1 : Int32) = nI 1 from rfl, ar_bo1, ar_uN, re_ptT (V := fun _ => 1) z] at ev
      rw [ey, ev, ew, nI_1]
      exact i1
    · rw [ew, nI_1]
      rw [re_ptF z, re_ptF z] at i1
      exact i1
theorem yq_carry {x : Nat} (hx : x < 5) (hd : nd ≤ 24) (hs : sy x < 5) (hsg : ∀ n, n < nd → sg n ≤ 4) : ∃ gv' : Nat → Nat, (∀ i, i < 6 * x ∨ 6 * x + 6 ≤ i → gv' i = gv i) ∧ (∀ q, q < 6 → gv' (6 * x + q) = if bt yts q = true then tg q else gv (6 * x + q)) ∧
    ∀ pos2 : SY → Prop, (∃ f, wY_carryOut_140 pos2 (nI x) f (nI 0) (nI st) (nI nd) (nI bu) yad (nI wk) (nI nx) (nI kc1) (nI kc0) (nI kc2) (nI (kc3 + gi)) (nI kc4) (nI kc5) (nI kc6) (nI kc7) yts (nI gi) yga (ar_N ww) (ar_N rg) (ar_N ce) gs (ar_N kd) (ar_N fa) ybs ycs (ar_N sg) ywd (ar_O so) ycd yws (ar_N nb) (ar_N sy) (ar_N (re_pt (24 * x) sg (sy x) tr nd vl)) (ar_N pv) (ar_N pc) (upd ygu x (ygu x ||| yts)) (ar_N gv') (ar_N (ar_u dn x 1)) (ar_N (re_pt (24 * x) sg (sy x) (fun _ => 1) nd wo)) (ar_N pp) (ar_N yo) (ar_N wh) (ar_N wt) (ar_N wi) (ar_N tr) (ar_N tg) yone ytwo ylv) → wpY_carryOut pos2 (nI st, nI nd, nI bu, yad, nI wk, nI nx, nI kc1, nI kc0, nI kc2, nI kc3, nI kc4, nI kc5, nI kc6, nI kc7, yts, nI gi, yga, ar_N ww, ar_N rg, ar_N ce, gs, ar_N kd, ar_N fa, ybs, ycs, ar_N sg, ywd, ar_O so, ycd, yws, ar_N nb, ar_N sy, ar_N vl, ar_N pv, ar_N pc, ygu, ar_N gv, ar_N dn, ar_N wo, ar_N pp, ar_N yo, ar_N wh, ar_N wt, ar_N wi, ar_N tr, ar_N tg, yone, ytwo, ylv) (nI x) := by
  obtain ⟨gv', h1, h2, h3⟩ := yq_carry28 (x := x) (yts := yts) (tg := tg) hx 6 0 gv (by omega)
  refine ⟨gv', fun i hi => h1 i (by omega), fun q hq => h2 q (by omega) hq, fun pos2 hp => ?_⟩
  unfold wpY_carryOut
  intro y ey
  refine ⟨vp_in_nI (by omega) (by omega), vp_in_nI (by omega) (by omega), fun w ew => ⟨7, ?_⟩⟩
  rw [ar_add] at ey
  rw [nI_clamp (by omega)] at ew
  rw [ey, ew]
  refine h3 pos2 ⟨nd + 1, ?_⟩
  have := yq_carry70 (pos2 := pos2) (kc3 := kc3 + gi) (ygu := upd ygu x (ygu x ||| yts)) (gv := gv') hx hd hs hsg hp nd 0 (by omega)
  rw [re_pt0, re_pt0] at this
  exact this
end
end
section
/-! what a stage prepares, both sides in lockstep -/
/-- what is prepared while one (x) prepares, up to write j -/
def re_Pq (wk x j : Nat) (so ws sy dn pp : Nat → Nat) : Prop := ∀ x', x' < wk → ∀ t, t < 7 → (pp (7 * x' + t) = 1 ↔ (so t ≠ 0 ∧ ((x' = x ∧ (ws t < sy x ∨ (ws t = sy x ∧ t < j))) ∨ (x' ≠ x ∧ re_av (ws t) (sy x') (dn x')))))
section
variable {st nd bu nx wk kc1 kc0 kc2 kc3 kc4 kc5 kc6 kc7 gi ad : Nat} {xad xga xto yad yts yga : Int32} {kd sb tc sg wd fa ww so rg ce nm xdn xsn xpr xcl ct nb sy vl pv pc gv dn wo pp yo wh wt wi tr tg cd ws : Nat → Nat} {gs xcd xws xon xgu xlf xrt xlv ybs ycs ywd ycd yws ygu yone ytwo ylv : Nat → Int32} {xtr : Nat → Int64}
variable {n0 : Nat → Nat}
theorem re_Qm {wk' : Nat} (hQ : re_Q wk ww sy xon xpr xcl pv pc pp yo) (h : wk' ≤ wk) : re_Q wk' ww sy xon xpr xcl pv pc pp yo := ⟨fun x hx => hQ.1 x (by omega), fun x hx => hQ.2.1 x (by omega), hQ.2.2⟩
theorem re_Pqm {wk' x j : Nat} (hP : re_Pq wk x j so ws sy dn pp) (h : wk' ≤ wk) : re_Pq wk' x j so ws sy dn pp := fun x' hx' => hP x' (by omega)
theorem pr_prep {x t : Nat} (hM : re_M st nd kd fa sb tc sg wd ww so cd ws ad gs xcd xws ycd yws ybs ycs xad yad) (hF : re_F st nd kd fa sb tc sg wd ww so cd ws ad gs) (hO : re_O st wk nx (ct 1) nm nb sy) (hV : re_V nd wk kd fa sg wd sy gs xgu ygu xdn dn xsn vl wo gv) (hQ : re_Q wk ww sy xon xpr xcl pv pc pp yo) (hP : re_Pq wk x t so ws sy dn pp) (hN : re_N0 nd kd fa gs n0) (hc : ct 1 + wk < 2 ^ 31) (hx : x < wk) (hdn : dn x = 1) (ht : t < 7) (hso : so t ≠ 0) (hws : ws t = sy x) :
    ∃ (wk' nx' gi' : Nat) (nm' ct' xpr' xcl' pv' pc' pp' yo' : Nat → Nat) (xon' xgu' ygu' : Nat → Int32), x < wk' ∧ wk' ≤ wk ∧ ct' 1 = ct 1 ∧ ct' 7 = ct 7 ∧ re_O st wk' nx' (ct' 1) nm' nb sy ∧ re_V nd wk' kd fa sg wd sy gs xgu' ygu' xdn dn xsn vl wo gv ∧ re_Q wk' ww sy xon' xpr' xcl' pv' pc' pp' yo' ∧ re_Pq wk' x (t + 1) so ws sy dn pp' ∧
      (∀ posu : SX → Prop, posu (nI st, nI nd, nI bu, xad, nI nx', xga, xto, ar_N kd, ar_N sb, ar_N tc, ar_N sg, ar_N wd, ar_N fa, ar_N ww, gs, ar_O so, xcd, xws, ar_N rg, ar_N ce, ar_O nm', xon', xgu', ar_N xdn, ar_N xsn, ar_N xpr', ar_N xcl', xtr, ar_N ct', xlf, xrt, xlv) → wpX_prepare posu (nI st, nI nd, nI bu, xad, nI nx, xga, xto, ar_N kd, ar_N sb, ar_N tc, ar_N sg, ar_N wd, ar_N fa, ar_N ww, gs, ar_O so, xcd, xws, ar_N rg, ar_N ce, ar_O nm, xon, xgu, ar_N xdn, ar_N xsn, ar_N xpr, ar_N xcl, xtr, ar_N ct, xlf, xrt, xlv) (nI (sy x)) (nI t)) ∧ (∀ pos2 : SY → Prop, pos2 (nI st, nI nd, nI bu, yad, nI wk', nI nx', nI (ct' 1), nI (ct' 0), nI (ct' 2), nI (ct' 3), nI (ct' 4), nI (ct' 5), nI (ct' 6), nI (ct' 7), yts, nI gi', yga, ar_N ww, ar_N rg, ar_N ce, gs, ar_N kd, ar_N fa, ybs, ycs, ar_N sg, ywd, ar_O so, ycd, yws, ar_N nb, ar_N sy, ar_N vl, ar_N pv', ar_N pc', ygu', ar_N gv, ar_N dn, ar_N wo, ar_N pp', ar_N yo', ar_N wh, ar_N wt, ar_N wi, ar_N tr, ar_N tg, yone, ytwo, ylv) → wpY_prepare pos2 (nI st, nI nd, nI bu, yad, nI wk, nI nx, nI (ct 1), nI (ct 0), nI (ct 2), nI (ct 3), nI (ct 4), nI (ct 5), nI (ct 6), nI (ct 7), yts, nI gi, yga, ar_N ww, ar_N rg, ar_N ce, gs, ar_N kd, ar_N fa, ybs, ycs, ar_N sg, ywd, ar_O so, ycd, yws, ar_N nb, ar_N sy, ar_N vl, ar_N pv, ar_N pc, ygu, ar_N gv, ar_N dn, ar_N wo, ar_N pp, ar_N yo, ar_N wh, ar_N wt, ar_N wi, ar_N tr, ar_N tg, yone, ytwo, ylv) (nI x) (nI t)) := by
  have hst := hM.1
  have hwk := re_wk hO
  have hs := hO.1 x hx
  have h16 := re_w16 hM
  obtain ⟨s1, s2⟩ := hM.2.2.2.1 t ht
  obtain ⟨c1, c2, c3, w1, w2, w3⟩ := s2 hso
  obtain ⟨f1, f2, f3, f4, f5⟩ := hF.2.1 t ht hso
  obtain ⟨m, hm⟩ : ∃ m, so t = m + 1 := ⟨so t - 1, by omega⟩
  rw [hm, Nat.add_sub_cancel] at f2 f5
  have av : ∀ n, sg n ≤ ws t → re_av (sg n) (sy x) (dn x) := by
    intro n h
    unfold re_av
    omega
  have val : ∀ n, n < nd → sg n ≤ ws t → xsn (24 * sy x + n) = vl (24 * x + n) ∧ vl (24 * x + n) < 65536 := by
    intro n hn h
    obtain ⟨v1, v2⟩ := hV.2.1 x hx n hn (av n h)
    exact ⟨v1, Nat.lt_of_lt_of_le v2 (ar_p16 (h16 n hn).2)⟩
  have vm := val m (by omega) f2
  have vm2 := re_pw (hV.2.1 x hx m (by omega) (av m f2)).2 f5
  have vc : cd t ≠ 0 → xsn (24 * sy x + (cd t - 1)) = vl (24 * x + (cd t - 1)) ∧ vl (24 * x + (cd t - 1)) < 65536 := fun q => val _ (by omega) (f3 q)
  have va : t = 6 → (xad = nI ad ∧ yad = nI ad ∧ ad < nd) ∧ xsn (24 * sy x + ad) = vl (24 * x + ad) ∧ vl (24 * x + ad) < 65536 := by
    intro q
    have := hM.2.2.2.2 (by rw [← q]; exact hso)
    exact ⟨this, val _ this.2.2 (f4 q)⟩
  have hp0 : pp (7 * x + t) ≠ 1 := by
    intro q
    have := ((hP x hx t ht).mp q).2
    omega
  obtain ⟨c, hcl, hc1⟩ : ∃ c : Nat, c ≤ 1 ∧ (c = 1 ↔ (cd t = 0 ∨ vl (24 * x + (cd t - 1)) ≠ 0)) := by
    by_cases q : cd t = 0 ∨ vl (24 * x + (cd t - 1)) ≠ 0
    · exact ⟨1, by omega, ⟨fun _ => q, fun _ => rfl⟩⟩
    · exact ⟨0, by omega, ⟨fun h => absurd h (by omega), fun h => absurd h q⟩⟩
  have hQ' := re_Qp (x := x) (t := t) (m := m) (c := c) (xsn := xsn) (vl := vl) (ad := ad) hO hQ hx ht hp0 hcl ⟨vm.1, vm2⟩ (fun q => (va q).2.1)
  have hpp : ∀ j, j ≤ x → ar_u pp (7 * x + t) 1 (7 * j + t) = 1 := by
    intro j hj
    by_cases e : j = x
    · subst e; exact ar_us _ _ _
    · rw [ar_un (by omega)]
      have := re_lt hO (x := j) (y := x) (by omega) hx
      refine (hP j (by omega) t ht).mpr ⟨hso, Or.inr ⟨e, Or.inl (by omega)⟩⟩
  obtain ⟨nm', nx', xgu', ygu', wk', gi', ct', r1, r2, r3, r4, r5, r6, r7, r8⟩ := pr_check (x := x) (t := t) hM hF hO hV hQ' hN hc hx ht hso hpp
  refine ⟨wk', nx', gi', nm', ct', _, _, _, _, _, _, _, xgu', ygu', r1, r2, r3, r4, r5, r6, re_Qm hQ' r2, ?_, fun posu hp => ?_, fun pos2 hp => ?_⟩
  · intro x' hx' t' ht'
    by_cases e : x' = x ∧ t' = t
    · obtain ⟨rfl, rfl⟩ := e
      rw [ar_us]
      exact ⟨fun _ => ⟨hso, Or.inl ⟨rfl, Or.inr ⟨hws, by omega⟩⟩⟩, fun _ => rfl⟩
    · rw [ar_un (by omega), hP x' (by omega) t' ht']
      constructor
      · rintro ⟨q1, q2 | q2⟩
        · exact ⟨q1, Or.inl ⟨q2.1, by omega⟩⟩
        · exact ⟨q1, Or.inr q2⟩
      · rintro ⟨q1, q2 | q2⟩
        · exact ⟨q1, Or.inl ⟨q2.1, by omega⟩⟩
        · exact ⟨q1, Or.inr q2⟩
  · refine xq_prep1 (d := cd t) (c := c) (m := m) (ad := ad) (by omega) ht (by omega) hm (by omega) c1 hcl ?_ ?_ ?_ (r7 posu hp)
    · rw [hc1]
      by_cases q : cd t = 0
      · simp [q]
      · rw [(vc q).1]
    · intro q; rw [(vc q).1]; have := (vc q).2; omega
    · intro q
      obtain ⟨⟨a1, a2, a3⟩, a4, a5⟩ := va q
      exact ⟨a1, by omega, by rw [a4]; omega⟩
  · refine yq_prep1 (d := cd t) (c := c) (m := m) (ad := ad) (by omega) ht (by omega) hm (by omega) c2 hcl hc1 ?_ ?_ (r8 pos2 hp)
    · intro q; have := (vc q).2; omega
    · intro q
      obtain ⟨⟨a1, a2, a3⟩, a4, a5⟩ := va q
      exact ⟨a2, by omega, by omega⟩
theorem pr_ploop {x : Nat} (hM : re_M st nd kd fa sb tc sg wd ww so cd ws ad gs xcd xws ycd yws ybs ycs xad yad) (hF : re_F st nd kd fa sb tc sg wd ww so cd ws ad gs) (hN : re_N0 nd kd fa gs n0) (hdn : dn x = 1) : ∀ d j (wk nx gi : Nat) (nm ct xpr xcl pv pc pp yo : Nat → Nat) (xon xgu ygu : Nat → Int32), j + d = 7 → re_O st wk nx (ct 1) nm nb sy → re_V nd wk kd fa sg wd sy gs xgu ygu xdn dn xsn vl wo gv → re_Q wk ww sy xon xpr xcl pv pc pp yo → re_Pq wk x j so ws sy dn pp → ct 1 + wk < 2 ^ 31 → x < wk →
    ∃ (wk' nx' gi' : Nat) (nm' ct' xpr' xcl' pv' pc' pp' yo' : Nat → Nat) (xon' xgu' ygu' : Nat → Int32), x < wk' ∧ wk' ≤ wk ∧ ct' 1 = ct 1 ∧ ct' 7 = ct 7 ∧ re_O st wk' nx' (ct' 1) nm' nb sy ∧ re_V nd wk' kd fa sg wd sy gs xgu' ygu' xdn dn xsn vl wo gv ∧ re_Q wk' ww sy xon' xpr' xcl' pv' pc' pp' yo' ∧ re_Pq wk' x 7 so ws sy dn pp' ∧
      (∀ posu : SX → Prop, posu (nI st, nI nd, nI bu, xad, nI nx', xga, xto, ar_N kd, ar_N sb, ar_N tc, ar_N sg, ar_N wd, ar_N fa, ar_N ww, gs, ar_O so, xcd, xws, ar_N rg, ar_N ce, ar_O nm', xon', xgu', ar_N xdn, ar_N xsn, ar_N xpr', ar_N xcl', xtr, ar_N ct', xlf, xrt, xlv) → wX_work_52 posu (nI (sy x)) (d + 1) (nI j) (nI st) (nI nd) (nI bu) xad (nI nx) xga xto (ar_N kd) (ar_N sb) (ar_N tc) (ar_N sg) (ar_N wd) (ar_N fa) (ar_N ww) gs (ar_O so) xcd xws (ar_N rg) (ar_N ce) (ar_O nm) xon xgu (ar_N xdn) (ar_N xsn) (ar_N xpr) (ar_N xcl) xtr (ar_N ct) xlf xrt xlv) ∧ (∀ pos2 : SY → Prop, pos2 (nI st, nI nd, nI bu, yad, nI wk', nI nx', nI (ct' 1), nI (ct' 0), nI (ct' 2), nI (ct' 3), nI (ct' 4), nI (ct' 5), nI (ct' 6), nI (ct' 7), yts, nI gi', yga, ar_N ww, ar_N rg, ar_N ce, gs, ar_N kd, ar_N fa, ybs, ycs, ar_N sg, ywd, ar_O so, ycd, yws, ar_N nb, ar_N sy, ar_N vl, ar_N pv', ar_N pc', ygu', ar_N gv, ar_N dn, ar_N wo, ar_N pp', ar_N yo', ar_N wh, ar_N wt, ar_N wi, ar_N tr, ar_N tg, yone, ytwo, ylv) → wY_carryOut_140 pos2 (nI x) (d + 1) (nI j) (nI st) (nI nd) (nI bu) yad (nI wk) (nI nx) (nI (ct 1)) (nI (ct 0)) (nI (ct 2)) (nI (ct 3)) (nI (ct 4)) (nI (ct 5)) (nI (ct 6)) (nI (ct 7)) yts (nI gi) yga (ar_N ww) (ar_N rg) (ar_N ce) gs (ar_N kd) (ar_N fa) ybs ycs (ar_N sg) ywd (ar_O so) ycd yws (ar_N nb) (ar_N sy) (ar_N vl) (ar_N pv) (ar_N pc) ygu (ar_N gv) (ar_N dn) (ar_N wo) (ar_N pp) (ar_N yo) (ar_N wh) (ar_N wt) (ar_N wi) (ar_N tr) (ar_N tg) yone ytwo ylv) := by
  have hst := hM.1
  intro d
  induction d with
  | zero =>
    intro j wk nx gi nm ct xpr xcl pv pc pp yo xon xgu ygu hj hO hV hQ hP hc hx
    have e : j = 7 := by omega
    subst e
    refine ⟨wk, nx, gi, nm, ct, xpr, xcl, pv, pc, pp, yo, xon, xgu, ygu, hx, Nat.le_refl _, rfl, rfl, hO, hV, hQ, hP, fun posu hp => ?_, fun pos2 hp => ?_⟩
    · rw [wX_work_52]
      exact br_t (by decide) hp
    · rw [wY_carryOut_140]
      exact br_t (by decide) hp
  | succ d ih =>
    intro j wk nx gi nm ct xpr xcl pv pc pp yo xon xgu ygu hj hO hV hQ hP hc hx
    have hwk := re_wk hO
    have hs := hO.1 x hx
    obtain ⟨s1, s2⟩ := hM.2.2.2.1 j (by omega)
    by_cases go : so j ≠ 0 ∧ ws j = sy x
    · obtain ⟨g1, g2⟩ := go
      obtain ⟨c1, c2, c3, w1, w2, w3⟩ := s2 g1
      obtain ⟨wk1, nx1, gi1, nm1, ct1, xpr1, xcl1, pv1, pc1, pp1, yo1, xon1, xgu1, ygu1, r1, r2, r3, r4, r5, r6, r7, r8, r9, r10⟩ := pr_prep (gi := gi) hM hF hO hV hQ hP hN hc hx hdn (by omega) g1 g2
      obtain ⟨wk', nx', gi', nm', ct', xpr', xcl', pv', pc', pp', yo', xon', xgu', ygu', i1, i2, i3, i4, i5, i6, i7, i8, i9, i10⟩ := ih (j + 1) wk1 nx1 gi1 nm1 ct1 xpr1 xcl1 pv1 pc1 pp1 yo1 xon1 xgu1 ygu1 (by omega) r5 r6 r7 r8 (by omega) r1
      refine ⟨wk', nx', gi', nm', ct', xpr', xcl', pv', pc', pp', yo', xon', xgu', ygu', i1, by omega, by omega, by omega, i5, i6, i7, i8, fun posu hp => ?_, fun pos2 hp => ?_⟩
      · rw [wX_work_52]
        refine br_f (nI_nlt (a := 6) (by omega) (by omega)) ⟨vp_in_nI (by omega) (by omega), ?_⟩
        rw [nI_clamp (by omega), ar_Oap]
        refine br_f (by rw [show (0 : Int32) = nI 0 from rfl, ar_ilt (by omega) (by omega)]; omega) ⟨vp_in_nI (by omega) (by omega), ?_⟩
        refine br_t (by rw [w1, g2]) ?_
        refine r9 _ ?_
        intro w ew
        rw [ew, nI_1]
        exact i9 posu hp
      · rw [wY_carryOut_140]
        refine br_f (nI_ge (b := 7) (by omega) (by omega)) ⟨vp_in_nI (by omega) (by omega), ?_⟩
        rw [nI_clamp (by omega), ar_Oap]
        refine br_f (by rw [show (0 : Int32) = nI 0 from rfl, ar_ilt (by omega) (by omega)]; omega) ⟨vp_in_nI (by omega) (by omega), vp_in_nI (by omega) (by omega), ?_⟩
        rw [nI_clamp (by omega), ar_Nap]
        refine br_t (by rw [w2, g2]) ?_
        refine r10 _ ?_
        intro w ew
        rw [ew, nI_1]
        exact i10 pos2 hp
    · have hP' : re_Pq wk x (j + 1) so ws sy dn pp := by
        intro x' hx' t' ht'
        rw [hP x' hx' t' ht']
        constructor
        · rintro ⟨q1, q2 | q2⟩
          · exact ⟨q1, Or.inl ⟨q2.1, by omega⟩⟩
          · exact ⟨q1, Or.inr q2⟩
        · rintro ⟨q1, q2 | q2⟩
          · refine ⟨q1, Or.inl ⟨q2.1, ?_⟩⟩
            rcases q2.2 with q3 | ⟨q3, q4⟩
            · exact Or.inl q3
            · by_cases e : t' = j
              · subst e; exact absurd ⟨q1, q3⟩ go
              · exact Or.inr ⟨q3, by omega⟩
          · exact ⟨q1, Or.inr q2⟩
      obtain ⟨wk', nx', gi', nm', ct', xpr', xcl', pv', pc', pp', yo', xon', xgu', ygu', i1, i2, i3, i4, i5, i6, i7, i8, i9, i10⟩ := ih (j + 1) wk nx gi nm ct xpr xcl pv pc pp yo xon xgu ygu (by omega) hO hV hQ hP' hc hx
      refine ⟨wk', nx', gi', nm', ct', xpr', xcl', pv', pc', pp', yo', xon', xgu', ygu', i1, i2, i3, i4, i5, i6, i7, i8, fun posu hp => ?_, fun pos2 hp => ?_⟩
      · rw [wX_work_52]
        refine br_f (nI_nlt (a := 6) (by omega) (by omega)) ⟨vp_in_nI (by omega) (by omega), ?_⟩
        rw [nI_clamp (by omega), ar_Oap]
        by_cases z : so j = 0
        · refine br_t (by rw [z]; decide) (fun w ew => ?_)
          rw [ew, nI_1]
          exact i9 posu hp
        · obtain ⟨c1, c2, c3, w1, w2, w3⟩ := s2 z
          refine br_f (by rw [show (0 : Int32) = nI 0 from rfl, ar_ilt (by omega) (by omega)]; omega) ⟨vp_in_nI (by omega) (by omega), ?_⟩
          refine br_f (fun q => go ⟨z, ?_⟩) (fun w ew => ?_)
          · rw [w1, nI_eq (by omega) (by omega)] at q; exact q
          · rw [ew, nI_1]
            exact i9 posu hp
      · rw [wY_carryOut_140]
        refine br_f (nI_ge (b := 7) (by omega) (by omega)) ⟨vp_in_nI (by omega) (by omega), ?_⟩
        rw [nI_clamp (by omega), ar_Oap]
        by_cases z : so j = 0
        · refine br_t (by rw [z]; decide) (fun w ew => ?_)
          rw [ew, nI_1]
          exact i10 pos2 hp
        · obtain ⟨c1, c2, c3, w1, w2, w3⟩ := s2 z
          refine br_f (by rw [show (0 : Int32) = nI 0 from rfl, ar_ilt (by omega) (by omega)]; omega) ⟨vp_in_nI (by omega) (by omega), vp_in_nI (by omega) (by omega), ?_⟩
          rw [nI_clamp (by omega), ar_Nap]
          refine br_f (fun q => go ⟨z, ?_⟩) (fun w ew => ?_)
          · rw [w2, nI_eq (by omega) (by omega)] at q; exact q
          · rw [ew, nI_1]
            exact i10 pos2 hp
end
end
section
/-! one slot's work, both sides -/
section
variable {st nd bu nx wk kc1 kc0 kc2 kc3 kc4 kc5 kc6 kc7 gi ad : Nat} {xad xga xto yad yts yga : Int32} {kd sb tc sg wd fa ww so rg ce nm xdn xsn xpr xcl ct nb sy vl pv pc gv dn wo pp yo wh wt wi tr tg cd ws : Nat → Nat} {gs xcd xws xon xgu xlf xrt xlv ybs ycs ywd ycd yws ygu yone ytwo ylv : Nat → Int32} {xtr : Nat → Int64}
variable {n0 V tr' tg' gv' : Nat → Nat} {x : Nat}
theorem re_tsP {s : Nat} (hM : re_M st nd kd fa sb tc sg wd ww so cd ws ad gs xcd xws ycd yws ybs ycs xad yad) : ∀ n, n ≤ nd → ∀ i, i < 32 → bt (re_ts x s kd fa sg so pp n) i = true → ∃ m, m < n ∧ sg m = s ∧ kd m = 1 ∧ ¬ re_kn so pp x (fa m) ∧ fa m = i := by
  intro n
  induction n with
  | zero =>
    intro _ i hi h
    rw [show re_ts x s kd fa sg so pp 0 = 0 from rfl, b_0] at h
    cases h
  | succ n ih =>
    intro hn i hi h
    have lift : bt (re_ts x s kd fa sg so pp n) i = true → ∃ m, m < n + 1 ∧ sg m = s ∧ kd m = 1 ∧ ¬ re_kn so pp x (fa m) ∧ fa m = i := by
      intro q
      obtain ⟨m, h1, h2⟩ := ih (by omega) i hi q
      exact ⟨m, by omega, h2⟩
    by_cases z : sg n = s
    · rw [show re_ts x s kd fa sg so pp (n + 1) = re_ts x s kd fa sg so pp n ||| re_dt x kd fa so pp n from if_pos z] at h
      by_cases z2 : kd n = 1 ∧ ¬ re_kn so pp x (fa n)
      · have hf := (hM.2.1 n (by omega)).2.2.1 z2.1
        rw [show re_dt x kd fa so pp n = nI 1 <<< (nI (fa n) &&& nI 31) from if_pos z2, ar_bto _ (by omega) hi] at h
        by_cases q : i = fa n
        · exact ⟨n, by omega, z, z2.1, z2.2, q.symm⟩
        · refine lift ?_
          simpa [q] using h
      · rw [show re_dt x kd fa so pp n = nI 0 from if_neg z2, ar_or0] at h
        exact lift h
    · rw [show re_ts x s kd fa sg so pp (n + 1) = re_ts x s kd fa sg so pp n from if_neg z] at h
      exact lift h
/-- the values after a stage's work -/
theorem re_Vwork (hM : re_M st nd kd fa sb tc sg wd ww so cd ws ad gs xcd xws ycd yws ybs ycs xad yad) (hF : re_F st nd kd fa sb tc sg wd ww so cd ws ad gs) (hO : re_O st wk nx (ct 1) nm nb sy) (hV : re_V nd wk kd fa sg wd sy gs xgu ygu xdn dn xsn vl wo gv) (hx : x < wk) (hd0 : dn x = 0) (hcn : re_cn nd x (sy x) kd fa sg so pp gs 0)
    (hRV : ∀ m, m < nd → sg m = sy x → kd m = 1 → V m = (re_RD x so pp yo pc pv rg ce vl ww gs n0) (fa m))
    (hVb : ∀ m, m < nd → sg m ≤ sy x → V m < 2 ^ wd m)
    (htr : ∀ m, m < nd → sg m ≤ sy x → tr' m = V m) (htg : ∀ r, r < 6 → bt (re_ts x (sy x) kd fa sg so pp nd) r = true → tg' r = (re_RD x so pp yo pc pv rg ce vl ww gs n0) r)
    (hg1 : ∀ i, i < 6 * x ∨ 6 * x + 6 ≤ i → gv' i = gv i) (hg2 : ∀ q, q < 6 → gv' (6 * x + q) = if bt (re_ts x (sy x) kd fa sg so pp nd) q = true then tg' q else gv (6 * x + q)) :
    re_V nd wk kd fa sg wd sy gs (upd xgu (sy x) (xgu (sy x) ||| re_ts x (sy x) kd fa sg so pp nd)) (upd ygu x (ygu x ||| re_ts x (sy x) kd fa sg so pp nd)) (ar_u xdn (sy x) 1) (ar_u dn x 1) (re_pt (24 * sy x) sg (sy x) V nd xsn) (re_pt (24 * x) sg (sy x) tr' nd vl) (re_pt (24 * x) sg (sy x) (fun _ => 1) nd wo) gv' := by
  have hst := hM.1
  have hwk := re_wk hO
  refine ⟨fun x' hx' => ?_, fun x' hx' n hn hav => ?_, fun x' hx' n hn => ?_, fun x' hx' r hr hb => ?_⟩
  · obtain ⟨v1, v2, v3, v4⟩ := hV.1 x' hx'
    by_cases e : x' = x
    · have e2 := e.symm; subst e2
      rw [ar_us, ar_us, pk_us, pk_us, v3, b_or, v4]
      refine ⟨rfl, by omega, rfl, ?_⟩
      cases h : bt (re_ts x (sy x) kd fa sg so pp nd) 6
      · rfl
      · obtain ⟨m, h1, h2, h3, h4, h5⟩ := re_tsP (x := x) hM nd (Nat.le_refl _) 6 (by omega) h
        have := (hM.2.1 m h1).2.2.1 h3
        omega
    · have hs : sy x' ≠ sy x := fun q => e (re_inj hO hx' hx q)
      rw [ar_un hs, ar_un e, pk_un hs, pk_un e]
      exact ⟨v1, v2, v3, v4⟩
  · by_cases e : x' = x
    · have e2 := e.symm; subst e2
      rw [ar_us] at hav
      by_cases q : sg n = sy x
      · rw [re_ptI hn q, re_ptI hn q, htr n hn (by omega)]
        exact ⟨rfl, hVb n hn (by omega)⟩
      · rw [re_ptO q, re_ptO q]
        exact hV.2.1 x hx n hn (Or.inl (by unfold re_av at hav; omega))
    · have hs : sy x' ≠ sy x := fun q => e (re_inj hO hx' hx q)
      rw [ar_un e] at hav
      rw [re_ptX (by omega), re_ptX (by omega)]
      exact hV.2.1 x' hx' n hn hav
  · obtain ⟨w1, w2⟩ := hV.2.2.1 x' hx' n hn
    by_cases e : x' = x
    · have e2 := e.symm; subst e2
      rw [ar_us]
      by_cases qn : n < nd
      · by_cases q : sg n = sy x
        · rw [re_ptI (V := fun _ => 1) qn q]
          exact ⟨Nat.le_refl _, fun _ => ⟨fun _ => Or.inr ⟨q, rfl⟩, fun _ => rfl⟩⟩
        · rw [re_ptO (V := fun _ => 1) q]
          refine ⟨w1, fun _ => (w2 qn).trans ?_⟩
          unfold re_av
          omega
      · rw [re_ptX (by omega)]
        exact ⟨w1, fun h => absurd h qn⟩
    · rw [ar_un e, re_ptX (by omega)]
      exact ⟨w1, w2⟩
  · by_cases e : x' = x
    · have e2 := e.symm; subst e2
      rw [pk_us, b_or] at hb
      rw [ar_us]
      cases h : bt (re_ts x (sy x) kd fa sg so pp nd) r
      · -- an older guess
        rw [h, Bool.or_false] at hb
        obtain ⟨g1, g2, g3⟩ := hV.2.2.2 x hx r hr hb
        refine ⟨g1, Or.inr rfl, fun n hn hk hf => ?_⟩
        have s0 := (hF.2.2 r hr g1).2.2 n hn hk hf
        rw [hg2 r hr, h, re_ptO (by omega)]
        exact g3 n hn hk hf
      · obtain ⟨m, h1, h2, h3, h4, h5⟩ := re_tsP (x := x) hM nd (Nat.le_refl _) r (by omega) h
        have g1 : gs r ≠ 9 := by
          rcases (hcn m (Nat.zero_le _) h1 h2).1 h3 with q | q
          · exact absurd q h4
          · rw [h5] at q; exact q
        have s0 := (hF.2.2 r hr g1).2.2
        have sx := s0 m h1 h3 h5
        refine ⟨g1, Or.inr rfl, fun n hn hk hf => ?_⟩
        have sn := s0 n hn hk hf
        rw [hg2 r hr, h, if_pos rfl, re_ptI hn (by omega), htr n hn (by omega), hRV n hn (by omega) hk, hf, htg r hr h]
    · have hs : sy x' ≠ sy x := fun q => e (re_inj hO hx' hx q)
      rw [pk_un e] at hb
      obtain ⟨g1, g2, g3⟩ := hV.2.2.2 x' hx' r hr hb
      rw [ar_un e]
      refine ⟨g1, g2, fun n hn hk hf => ?_⟩
      rw [re_ptX (by omega), hg1 _ (by omega)]
      exact g3 n hn hk hf
theorem pr_slot (hM : re_M st nd kd fa sb tc sg wd ww so cd ws ad gs xcd xws ycd yws ybs ycs xad yad) (hF : re_F st nd kd fa sb tc sg wd ww so cd ws ad gs) (hwd : ∀ n, n < nd → ywd n = nI (wd n)) (hO : re_O st wk nx (ct 1) nm nb sy) (hV : re_V nd wk kd fa sg wd sy gs xgu ygu xdn dn xsn vl wo gv) (hQ : re_Q wk ww sy xon xpr xcl pv pc pp yo) (hP : re_P wk so ws sy dn pp) (hC : re_C ww rg ce ct wh wt wi xtr) (hc : ct 1 + wk < 2 ^ 31) (hx : x < wk) (hd0 : dn x = 0) :
    ∃ (wk' nx' gi' : Nat) (yts' : Int32) (nm' ct' xdn' xsn' xpr' xcl' vl' pv' pc' gv' dn' wo' pp' yo' tr' tg' : Nat → Nat) (xon' xgu' ygu' : Nat → Int32), x < wk' ∧ wk' ≤ wk ∧ ct' 1 = ct 1 ∧ ct' 7 = ct 7 ∧ re_O st wk' nx' (ct' 1) nm' nb sy ∧ re_V nd wk' kd fa sg wd sy gs xgu' ygu' xdn' dn' xsn' vl' wo' gv' ∧ re_Q wk' ww sy xon' xpr' xcl' pv' pc' pp' yo' ∧ re_P wk' so ws sy dn' pp' ∧ (∀ x', x' < x → dn' x' = dn x') ∧ (x = 0 → dn' 0 = 1) ∧ (∀ (posu : SX → Prop) (f : Nat), wX_cycle_34 posu f (ar_i (sy x)) (nI st) (nI nd) (nI bu) xad (nI nx') xga xto (ar_N kd) (ar_N sb) (ar_N tc) (ar_N sg) (ar_N wd) (ar_N fa) (ar_N ww) gs (ar_O so) xcd xws (ar_N rg) (ar_N ce) (ar_O nm') xon' xgu' (ar_N xdn') (ar_N xsn') (ar_N xpr') (ar_N xcl') xtr (ar_N ct') xlf xrt xlv → wX_cycle_34 posu (f + 1) (nI (sy x)) (nI st) (nI nd) (nI bu) xad (nI nx) xga xto (ar_N kd) (ar_N sb) (ar_N tc) (ar_N sg) (ar_N wd) (ar_N fa) (ar_N ww) gs (ar_O so) xcd xws (ar_N rg) (ar_N ce) (ar_O nm) xon xgu (ar_N xdn) (ar_N xsn) (ar_N xpr) (ar_N xcl) xtr (ar_N ct) xlf xrt xlv) ∧ (∀ (pos2 : SY → Prop) (f : Nat), wY_cycle_41 pos2 f (nI (x + 1)) (nI st) (nI nd) (nI bu) yad (nI wk') (nI nx') (nI (ct' 1)) (nI (ct' 0)) (nI (ct' 2)) (nI (ct' 3)) (nI (ct' 4)) (nI (ct' 5)) (nI (ct' 6)) (nI (ct' 7)) yts' (nI gi') yga (ar_N ww) (ar_N rg) (ar_N ce) gs (ar_N kd) (ar_N fa) ybs ycs (ar_N sg) ywd (ar_O so) ycd yws (ar_N nb) (ar_N sy) (ar_N vl') (ar_N pv') (ar_N pc') ygu' (ar_N gv') (ar_N dn') (ar_N wo') (ar_N pp') (ar_N yo') (ar_N wh) (ar_N wt) (ar_N wi) (ar_N tr') (ar_N tg') yone ytwo ylv → wY_cycle_41 pos2 (f + 1) (nI x) (nI st) (nI nd) (nI bu) yad (nI wk) (nI nx) (nI (ct 1)) (nI (ct 0)) (nI (ct 2)) (nI (ct 3)) (nI (ct 4)) (nI (ct 5)) (nI (ct 6)) (nI (ct 7)) yts (nI gi) yga (ar_N ww) (ar_N rg) (ar_N ce) gs (ar_N kd) (ar_N fa) ybs ycs (ar_N sg) ywd (ar_O so) ycd yws (ar_N nb) (ar_N sy) (ar_N vl) (ar_N pv) (ar_N pc) ygu (ar_N gv) (ar_N dn) (ar_N wo) (ar_N pp) (ar_N yo) (ar_N wh) (ar_N wt) (ar_N wi) (ar_N tr) (ar_N tg) yone ytwo ylv) := by
  have hst := hM.1
  have hwk := re_wk hO
  have hs := hO.1 x hx
  have hD : ∀ x, x < wk → xdn (sy x) = dn x ∧ dn x ≤ 1 := fun x hx => ⟨(hV.1 x hx).1, (hV.1 x hx).2.1⟩
  have hnm := re_nmb hO hc (sy x)
  have hnn := re_nmn hO hx
  have hxd := (hD x hx).1
  obtain ⟨n0, hN⟩ := re_N0x hF
  obtain ⟨V, hHV⟩ := re_HVx hM (sy x) (re_RD x so pp yo pc pv rg ce vl ww gs n0) (fun k => re_lk so pp yo pc pv rg ce 6 k x) (fun m => vl (24 * x + m))
  have hVb := re_vb hM hF hHV (fun m hm h => (hV.2.1 x hx m hm (Or.inl h)).2) (fun n hn hk _ => re_RDb (x := x) hQ hC (by omega) ((hM.2.1 n hn).2.2.1 hk)) (fun k hk => re_lkb (x := x) (t := 6) hQ hC (by omega) (by omega) hk)
  have wide : ∀ m, m < nd → sg m ≤ sy x → V m < 65536 := fun m hm hsm => Nat.lt_of_lt_of_le (hVb m hm hsm) (ar_p16 (re_w16 hM m hm).2)
  obtain ⟨b, yts', gi', tr', tg', b1, b2, b3, b4⟩ := yq_works12 (x := x) (V := V) (n0 := n0) (kc0 := ct 0) (kc1 := ct 1) (kc2 := ct 2) (kc3 := ct 3) (kc4 := ct 4) (kc5 := ct 5) (kc6 := ct 6) (kc7 := ct 7) (bu := bu) (yga := yga) (nx := nx) (ygu := ygu) (gv := gv) (dn := dn) (wo := wo) (nb := nb) (wh := wh) (wt := wt) (wi := wi) (yone := yone) (ytwo := ytwo) (ylv := ylv) hM hF hO hQ hP hC hN hx hwd (fun m hm h => ((hHV m hm).1 h).symm) (fun m hm h => (hHV m hm).2 h) hVb nd 0 (nd + 1) tr tg (by omega) (by omega) (fun m hm => absurd hm (by omega)) (fun r hr h => by
    rw [show re_ts x (sy x) kd fa sg so pp 0 = 0 from rfl, b_0] at h; cases h)
  rcases b1 with b0 | b0
  · -- it has to wait
    subst b0
    have ncn : ¬ re_cn nd x (sy x) kd fa sg so pp gs 0 := fun q => absurd (b2.mpr q) (by omega)
    refine ⟨wk, nx, gi', yts', nm, ar_u ct 2 (ct 2 + 1), xdn, xsn, xpr, xcl, vl, pv, pc, gv, dn, wo, pp, yo, tr', tg', xon, xgu, ygu, hx, Nat.le_refl _, rfl, rfl, hO, hV, hQ, hP, fun _ _ => rfl, fun q => absurd (fun m _ _ _ => ⟨fun _ => Or.inl (Or.inr (Or.inl q)), fun _ => Or.inr (Or.inl q)⟩) ncn, fun posu f hp => ?_, fun pos2 f hp => ?_⟩
    · rw [wX_cycle_34]
      refine br_f (nI_pos (by omega)) ⟨vp_in_nI (by omega) (by omega), ?_⟩
      rw [nI_clamp (by omega), ar_Oap]
      refine br_f (by rw [show (0 : Int32) = nI 0 from rfl, ar_ilt hnm (by omega)]; omega) ⟨vp_in_nI (by omega) (by omega), ?_⟩
      refine br_t (by rw [ar_Nap, hxd, hd0]; rfl) ?_
      refine xq_can hM hO hD hP hc hx (fun q => absurd q ncn) (fun _ => ?_)
      refine br_t rfl (fun y ey w ew => ?_)
      rw [ar_Nap, nI_1, ar_uN] at ey
      rw [ey, show w = ar_i (sy x) from ew.trans (ar_ad1 _)]
      exact hp
    · rw [wY_cycle_41]
      refine br_f (nI_ge (by omega) (by omega)) ⟨vp_in_nI (by omega) (by omega), ?_⟩
      refine br_t (by rw [nI_clamp (by omega), ar_Nap, hd0]; rfl) ?_
      refine ⟨nd + 1, b4 _ ?_⟩
      refine br_t rfl (fun y ey w ew => ?_)
      rw [nI_1] at ey ew
      rw [ey, ew]
      exact hp
  · subst b0
    have hcn := b2.mp rfl
    obtain ⟨rfl, rfl, t1, t2⟩ := b3 rfl
    obtain ⟨gv', g1, g2, g3⟩ := yq_carry (x := x) (nd := nd) (sy := sy) (sg := sg) (gv := gv) (yts := re_ts x (sy x) kd fa sg so pp nd) (gi := re_gi x (sy x) kd fa sg so pp yo pc V nd) (tg := tg') (tr := tr') (vl := vl) (wo := wo) (dn := dn) (ygu := ygu) (st := st) (bu := bu) (yad := yad) (wk := wk) (nx := nx) (kc0 := ct 0) (kc1 := ct 1) (kc2 := ct 2) (kc3 := ct 3) (kc4 := ct 4) (kc5 := ct 5) (kc6 := ct 6) (kc7 := ct 7) (yga := yga) (ww := ww) (rg := rg) (ce := ce) (gs := gs) (kd := kd) (fa := fa) (ybs := ybs) (ycs := ycs) (ywd := ywd) (so := so) (ycd := ycd) (yws := yws) (nb := nb) (pv := pv) (pc := pc) (pp := pp) (yo := yo) (wh := wh) (wt := wt) (wi := wi) (yone := yone) (ytwo := ytwo) (ylv := ylv) (by omega) hst.2.2 (by omega) (fun n hn => (hM.2.1 n hn).2.2.2.2.2.2.2.1)
    have hV' := re_Vwork (x := x) (V := V) (n0 := n0) (tr' := tr') (tg' := tg') (gv' := gv') (yo := yo) (pc := pc) (pv := pv) (rg := rg) (ce := ce) hM hF hO hV hx hd0 hcn (fun m hm h hk => by
      have := (hHV m hm).2 h
      unfold re_vl at this
      rw [if_neg (by omega), if_pos hk] at this
      exact this) hVb t1 t2 g1 g2
    have hPq : re_Pq wk x 0 so ws sy (ar_u dn x 1) pp := by
      intro x' hx' t ht
      rw [hP x' hx' t ht]
      by_cases e : x' = x
      · subst e
        unfold re_av
        rw [hd0]
        constructor
        · rintro ⟨q1, q2⟩; exact ⟨q1, Or.inl ⟨rfl, by omega⟩⟩
        · rintro ⟨q1, q2 | q2⟩
          · exact ⟨q1, by omega⟩
          · exact absurd rfl q2.1
      · rw [ar_un e]
        constructor
        · rintro ⟨q1, q2⟩; exact ⟨q1, Or.inr ⟨e, q2⟩⟩
        · rintro ⟨q1, q2 | q2⟩
          · exact absurd q2.1 e
          · exact ⟨q1, q2.2⟩
    obtain ⟨wk', nx', gi', nm', ct', xpr', xcl', pv', pc', pp', yo', xon', xgu', ygu', i1, i2, i3, i4, i5, i6, i7, i8, i9, i10⟩ := pr_ploop (x := x) (dn := ar_u dn x 1) (xdn := ar_u xdn (sy x) 1) (xsn := re_pt (24 * sy x) sg (sy x) V nd xsn) (vl := re_pt (24 * x) sg (sy x) tr' nd vl) (wo := re_pt (24 * x) sg (sy x) (fun _ => 1) nd wo) (gv := gv') (st := st) (bu := bu) (xga := xga) (xto := xto) (rg := rg) (ce := ce) (xtr := xtr) (xlf := xlf) (xrt := xrt) (xlv := xlv) (yga := yga) (ywd := ywd) (yts := re_ts x (sy x) kd fa sg so pp nd) (nb := nb) (wh := wh) (wt := wt) (wi := wi) (tr := tr') (tg := tg') (yone := yone) (ytwo := ytwo) (ylv := ylv) hM hF hN (ar_us _ _ _) 7 0 wk nx (re_gi x (sy x) kd fa sg so pp yo pc V nd) nm (ar_u ct 3 (ct 3 + re_gi x (sy x) kd fa sg so pp yo pc V nd)) xpr xcl pv pc pp yo xon (upd xgu (sy x) (xgu (sy x) ||| re_ts x (sy x) kd fa sg so pp nd)) (upd ygu x (ygu x ||| re_ts x (sy x) kd fa sg so pp nd)) (by omega) hO hV' hQ hPq hc hx
    refine ⟨wk', nx', gi', re_ts x (sy x) kd fa sg so pp nd, nm', ct', ar_u xdn (sy x) 1, re_pt (24 * sy x) sg (sy x) V nd xsn, xpr', xcl', re_pt (24 * x) sg (sy x) tr' nd vl, pv', pc', gv', ar_u dn x 1, re_pt (24 * x) sg (sy x) (fun _ => 1) nd wo, pp', yo', tr', tg', xon', xgu', ygu', i1, i2, i3, i4, i5, i6, i7, ?_, fun x' h => ar_un (by omega), fun h => by rw [h]; exact ar_us _ _ _, fun posu f hp => ?_, fun pos2 f hp => ?_⟩
    · intro x' hx' t ht
      rw [i8 x' hx' t ht]
      by_cases e : x' = x
      · subst e
        unfold re_av
        rw [ar_us]
        constructor
        · rintro ⟨q1, q2 | q2⟩
          · exact ⟨q1, by omega⟩
          · exact absurd rfl q2.1
        · rintro ⟨q1, q2⟩
          exact ⟨q1, Or.inl ⟨rfl, by omega⟩⟩
      · constructor
        · rintro ⟨q1, q2 | q2⟩
          · exact absurd q2.1 e
          · exact ⟨q1, q2.2⟩
        · rintro ⟨q1, q2⟩
          exact ⟨q1, Or.inr ⟨e, q2⟩⟩
    · rw [wX_cycle_34]
      refine br_f (nI_pos (by omega)) ⟨vp_in_nI (by omega) (by omega), ?_⟩
      rw [nI_clamp (by omega), ar_Oap]
      refine br_f (by rw [show (0 : Int32) = nI 0 from rfl, ar_ilt hnm (by omega)]; omega) ⟨vp_in_nI (by omega) (by omega), ?_⟩
      refine br_t (by rw [ar_Nap, hxd, hd0]; rfl) ?_
      refine xq_can hM hO hD hP hc hx (fun _ => ?_) (fun q => absurd hcn q)
      refine br_f (by decide) ?_
      refine ⟨nd + 1, ?_⟩
      have w := xq_work2 (x := x) (V := V) (n0 := n0) (vl := vl) (ct := ct) (xgu := xgu) (xsn := xsn) (xdn := xdn) (posu := fun u => match u with | (f_stages_129, f_nodes_130, f_built_131, f_address_132, f_next_133, f_gates_134, f_top_135, a_kind_136, a_second_137, a_third_138, a_stageOf_139, a_wide_140, a_first_141, a_width_142, a_guess_143, a_source_144, a_condition_145, a_writeStage_146, a_registers_147, a_cells_148, a_number_149, a_on_150, a_guessed_151, a_done_152, a_seen_153, a_prepared_154, a_cell_155, a_traced_156, a_counts_157, a_left_158, a_right_159, a_level_160) => (∀ x2_161 : Int32, x2_161 = nI (sy x) + (-1) → (wX_cycle_34 posu f x2_161 f_stages_129 f_nodes_130 f_built_131 f_address_132 f_next_133 f_gates_134 f_top_135 a_kind_136 a_second_137 a_third_138 a_stageOf_139 a_wide_140 a_first_141 a_width_142 a_guess_143 a_source_144 a_condition_145 a_writeStage_146 a_registers_147 a_cells_148 a_number_149 a_on_150 a_guessed_151 a_done_152 a_seen_153 a_prepared_154 a_cell_155 a_traced_156 a_counts_157 a_left_158 a_right_159 a_level_160))) hM hF hO hD hQ hP hN hc hx hcn (fun r hr hg hx0 => ?_) (fun m hm h => ?_) (fun m hm h => (hHV m hm).2 h) wide ⟨8, i9 _ ?_⟩ nd 0 (nd + 1) (by omega) (by omega)
      · rw [re_pt0, show re_gi x (sy x) kd fa sg so pp yo pc V 0 = 0 from rfl, ar_self0, show re_ts x (sy x) kd fa sg so pp 0 = nI 0 from rfl, ar_upself0] at w
        exact w
      · obtain ⟨n1, n2, n3, n4⟩ := hN r hr hg
        have s0 := (hF.2.2 r hr hg).2.2 (n0 r) n1 n2 n3
        have := re_lt hO (x := x - 1) (y := x) (by omega) hx
        exact (hV.2.1 (x - 1) (by omega) (n0 r) n1 (Or.inl (by omega))).1
      · rw [(hV.2.1 x hx m hm (Or.inl h)).1]
        exact ((hHV m hm).1 h).symm
      · intro w ew
        rw [show w = ar_i (sy x) from ew.trans (ar_ad1 _)]
        exact hp
    · rw [wY_cycle_41]
      refine br_f (nI_ge (by omega) (by omega)) ⟨vp_in_nI (by omega) (by omega), ?_⟩
      refine br_t (by rw [nI_clamp (by omega), ar_Nap, hd0]; rfl) ?_
      refine ⟨nd + 1, b4 _ ?_⟩
      refine br_f (by decide) ?_
      refine g3 _ ⟨8, i10 _ ?_⟩
      intro w ew
      rw [nI_1] at ew
      rw [ew]
      exact hp
end
end
section
/-! all slots' work, the oldest first -/
section
variable {st nd bu nx wk kc1 kc0 kc2 kc3 kc4 kc5 kc6 kc7 gi ad : Nat} {xad xga xto yad yts yga : Int32} {kd sb tc sg wd fa ww so rg ce nm xdn xsn xpr xcl ct nb sy vl pv pc gv dn wo pp yo wh wt wi tr tg cd ws : Nat → Nat} {gs xcd xws xon xgu xlf xrt xlv ybs ycs ywd ycd yws ygu yone ytwo ylv : Nat → Int32} {xtr : Nat → Int64}
theorem re_Cm {ct' : Nat → Nat} (hC : re_C ww rg ce ct wh wt wi xtr) (h1 : ct' 1 = ct 1) (h7 : ct' 7 = ct 7) : re_C ww rg ce ct' wh wt wi xtr := ⟨hC.1, hC.2.1, by rw [h1, h7]; exact hC.2.2.1, hC.2.2.2⟩
theorem pr_loop1 (hM : re_M st nd kd fa sb tc sg wd ww so cd ws ad gs xcd xws ycd yws ybs ycs xad yad) (hF : re_F st nd kd fa sb tc sg wd ww so cd ws ad gs) (hwd : ∀ n, n < nd → ywd n = nI (wd n)) : ∀ (k x f : Nat) (wk nx gi : Nat) (yts : Int32) (nm ct xdn xsn xpr xcl vl pv pc gv dn wo pp yo tr tg : Nat → Nat) (xon xgu ygu : Nat → Int32), re_O st wk nx (ct 1) nm nb sy → re_V nd wk kd fa sg wd sy gs xgu ygu xdn dn xsn vl wo gv → re_Q wk ww sy xon xpr xcl pv pc pp yo → re_P wk so ws sy dn pp → re_C ww rg ce ct wh wt wi xtr → ct 1 + wk < 2 ^ 31 → x ≤ wk → k ≤ st → (∀ x', x' < x → k ≤ sy x') → (∀ x', x ≤ x' → x' < wk → sy x' < k) → wk - x < f → (0 < x → dn 0 = 1) →
    ∃ (wk' nx' gi' : Nat) (yts' : Int32) (nm' ct' xdn' xsn' xpr' xcl' vl' pv' pc' gv' dn' wo' pp' yo' tr' tg' : Nat → Nat) (xon' xgu' ygu' : Nat → Int32), wk' ≤ wk ∧ (0 < wk → 0 < wk') ∧ ct' 1 = ct 1 ∧ ct' 7 = ct 7 ∧ re_O st wk' nx' (ct' 1) nm' nb sy ∧ re_V nd wk' kd fa sg wd sy gs xgu' ygu' xdn' dn' xsn' vl' wo' gv' ∧ re_Q wk' ww sy xon' xpr' xcl' pv' pc' pp' yo' ∧ re_P wk' so ws sy dn' pp' ∧ (0 < wk → dn' 0 = 1) ∧
      (∀ posu : SX → Prop, (∃ g, wX_cycle_100 posu g (ar_i st) (nI st) (nI nd) (nI bu) xad (nI nx') xga xto (ar_N kd) (ar_N sb) (ar_N tc) (ar_N sg) (ar_N wd) (ar_N fa) (ar_N ww) gs (ar_O so) xcd xws (ar_N rg) (ar_N ce) (ar_O nm') xon' xgu' (ar_N xdn') (ar_N xsn') (ar_N xpr') (ar_N xcl') xtr (ar_N ct') xlf xrt xlv) → wX_cycle_34 posu (k + 1) (ar_i k) (nI st) (nI nd) (nI bu) xad (nI nx) xga xto (ar_N kd) (ar_N sb) (ar_N tc) (ar_N sg) (ar_N wd) (ar_N fa) (ar_N ww) gs (ar_O so) xcd xws (ar_N rg) (ar_N ce) (ar_O nm) xon xgu (ar_N xdn) (ar_N xsn) (ar_N xpr) (ar_N xcl) xtr (ar_N ct) xlf xrt xlv) ∧ (∀ pos2 : SY → Prop, (∃ g, wY_cycle_97 pos2 g (nI 0) (nI st) (nI nd) (nI bu) yad (nI wk') (nI nx') (nI (ct' 1)) (nI (ct' 0)) (nI (ct' 2)) (nI (ct' 3)) (nI (ct' 4)) (nI (ct' 5)) (nI (ct' 6)) (nI (ct' 7)) yts' (nI gi') yga (ar_N ww) (ar_N rg) (ar_N ce) gs (ar_N kd) (ar_N fa) ybs ycs (ar_N sg) ywd (ar_O so) ycd yws (ar_N nb) (ar_N sy) (ar_N vl') (ar_N pv') (ar_N pc') ygu' (ar_N gv') (ar_N dn') (ar_N wo') (ar_N pp') (ar_N yo') (ar_N wh) (ar_N wt) (ar_N wi) (ar_N tr') (ar_N tg') yone ytwo ylv) → wY_cycle_41 pos2 f (nI x) (nI st) (nI nd) (nI bu) yad (nI wk) (nI nx) (nI (ct 1)) (nI (ct 0)) (nI (ct 2)) (nI (ct 3)) (nI (ct 4)) (nI (ct 5)) (nI (ct 6)) (nI (ct 7)) yts (nI gi) yga (ar_N ww) (ar_N rg) (ar_N ce) gs (ar_N kd) (ar_N fa) ybs ycs (ar_N sg) ywd (ar_O so) ycd yws (ar_N nb) (ar_N sy) (ar_N vl) (ar_N pv) (ar_N pc) ygu (ar_N gv) (ar_N dn) (ar_N wo) (ar_N pp) (ar_N yo) (ar_N wh) (ar_N wt) (ar_N wi) (ar_N tr) (ar_N tg) yone ytwo ylv) := by
  have hst := hM.1
  intro k
  induction k with
  | zero =>
    intro x f wk nx gi yts nm ct xdn xsn xpr xcl vl pv pc gv dn wo pp yo tr tg xon xgu ygu hO hV hQ hP hC hc hx hk h1 h2 hf hd
    have hwk := re_wk hO
    have e : x = wk := by
      rcases Nat.lt_or_ge x wk with q | q
      · exact absurd (h2 x (Nat.le_refl _) q) (by omega)
      · omega
    subst e
    refine ⟨x, nx, gi, yts, nm, ct, xdn, xsn, xpr, xcl, vl, pv, pc, gv, dn, wo, pp, yo, tr, tg, xon, xgu, ygu, Nat.le_refl _, fun q => q, rfl, rfl, hO, hV, hQ, hP, hd, fun posu hp => ?_, fun pos2 hp => ?_⟩
    · rw [wX_cycle_34]
      refine br_t (by decide) (fun y ey => ?_)
      rw [show y = ar_i st from ey.trans (ar_sub1 st)]
      exact hp
    · cases f with
      | zero => omega
      | succ f =>
        rw [wY_cycle_41]
        exact br_t (nI_le (Nat.le_refl _) (by omega)) hp
  | succ k ih =>
    intro x f wk nx gi yts nm ct xdn xsn xpr xcl vl pv pc gv dn wo pp yo tr tg xon xgu ygu hO hV hQ hP hC hc hx hk h1 h2 hf hd
    have hwk := re_wk hO
    have hnm := re_nmb hO hc k
    by_cases here : x < wk ∧ sy x = k
    · obtain ⟨z1, z2⟩ := here
      cases f with
      | zero => omega
      | succ f =>
        obtain ⟨v1, v2, v3, v4⟩ := hV.1 x z1
        by_cases dd : dn x = 0
        · obtain ⟨wk1, nx1, gi1, yts1, nm1, ct1, xdn1, xsn1, xpr1, xcl1, vl1, pv1, pc1, gv1, dn1, wo1, pp1, yo1, tr1, tg1, xon1, xgu1, ygu1, r1, r2, r3, r4, r5, r6, r7, r8, r9, r10, r11, r12⟩ := pr_slot (x := x) (nx := nx) (gi := gi) (yts := yts) (tr := tr) (tg := tg) (bu := bu) (xga := xga) (xto := xto) (xlf := xlf) (xrt := xrt) (xlv := xlv) (yga := yga) (yone := yone) (ytwo := ytwo) (ylv := ylv) (nb := nb) hM hF hwd hO hV hQ hP hC hc z1 dd
          have IH := ih (x + 1) f wk1 nx1 gi1 yts1 nm1 ct1 xdn1 xsn1 xpr1 xcl1 vl1 pv1 pc1 gv1 dn1 wo1 pp1 yo1 tr1 tg1 xon1 xgu1 ygu1 r5 r6 r7 r8 (re_Cm hC r3 r4) (by omega) (by omega) (by omega) (fun x' hx' => ?_) (fun x' hx' hw => ?_) (by omega) (fun _ => ?_)
          · obtain ⟨wk', nx', gi', yts', nm', ct', xdn', xsn', xpr', xcl', vl', pv', pc', gv', dn', wo', pp', yo', tr', tg', xon', xgu', ygu', i1, i2, i3, i4, i5, i6, i7, i8, i9, i10, i11⟩ := IH
            refine ⟨wk', nx', gi', yts', nm', ct', xdn', xsn', xpr', xcl', vl', pv', pc', gv', dn', wo', pp', yo', tr', tg', xon', xgu', ygu', by omega, fun _ => i2 (by omega), by omega, by omega, i5, i6, i7, i8, fun _ => i9 (by omega), fun posu hp => ?_, fun pos2 hp => ?_⟩
            · have := r11 posu (k + 1) (by rw [z2]; exact i10 posu hp)
              rw [z2] at this
              exact this
            · exact r12 pos2 f (i11 pos2 hp)
          · rcases Nat.lt_or_ge x' x with q | q
            · have := h1 x' q; omega
            · have e : x' = x := by omega
              subst e; omega
          · have := re_lt hO (x := x) (y := x') (by omega) (by omega); omega
          · by_cases q : x = 0
            · exact r10 q
            · rw [r9 0 (by omega)]; exact hd (by omega)
        · have IH := ih (x + 1) f wk nx gi yts nm ct xdn xsn xpr xcl vl pv pc gv dn wo pp yo tr tg xon xgu ygu hO hV hQ hP hC hc (by omega) (by omega) (fun x' hx' => ?_) (fun x' hx' hw => ?_) (by omega) (fun _ => ?_)
          · obtain ⟨wk', nx', gi', yts', nm', ct', xdn', xsn', xpr', xcl', vl', pv', pc', gv', dn', wo', pp', yo', tr', tg', xon', xgu', ygu', i1, i2, i3, i4, i5, i6, i7, i8, i9, i10, i11⟩ := IH
            refine ⟨wk', nx', gi', yts', nm', ct', xdn', xsn', xpr', xcl', vl', pv', pc', gv', dn', wo', pp', yo', tr', tg', xon', xgu', ygu', i1, i2, i3, i4, i5, i6, i7, i8, i9, fun posu hp => ?_, fun pos2 hp => ?_⟩
            · rw [wX_cycle_34]
              refine br_f (nI_pos (by omega)) ⟨vp_in_nI (by omega) (by omega), ?_⟩
              have hnn := re_nmn hO z1
              rw [z2] at hnn v1
              rw [ar_is, nI_clamp (by omega), ar_Oap]
              refine br_f (by rw [show (0 : Int32) = nI 0 from rfl, ar_ilt hnm (by omega)]; omega) ⟨vp_in_nI (by omega) (by omega), ?_⟩
              refine br_f (by rw [ar_Nap, v1, show (0 : Int32) = nI 0 from rfl, nI_eq (by omega) (by omega)]; exact dd) (fun y ey => ?_)
              rw [show y = ar_i k from ey.trans (ar_ad1 _)]
              exact i10 posu hp
            · rw [wY_cycle_41]
              refine br_f (nI_ge (by omega) (by omega)) ⟨vp_in_nI (by omega) (by omega), ?_⟩
              refine br_f (by rw [nI_clamp (by omega), ar_Nap, show (0 : Int32) = nI 0 from rfl, nI_eq (by omega) (by omega)]; exact dd) (fun y ey => ?_)
              rw [ey, nI_1]
              exact i11 pos2 hp
          · rcases Nat.lt_or_ge x' x with q | q
            · have := h1 x' q; omega
            · have e : x' = x := by omega
              subst e; omega
          · have := re_lt hO (x := x) (y := x') (by omega) (by omega); omega
          · by_cases q : x = 0
            · rw [← q]; omega
            · exact hd (by omega)
    · have hz : nm k = 0 := by
        refine (hO.2.2.2.1 k).1 (by omega) (fun x' hx' q => ?_)
        rcases Nat.lt_trichotomy x' x with c | c | c
        · have := h1 x' c; omega
        · subst c; exact here ⟨hx', q⟩
        · have := re_lt hO (x := x) (y := x') c hx'
          have := h2 x (Nat.le_refl _) (by omega)
          omega
      have IH := ih x f wk nx gi yts nm ct xdn xsn xpr xcl vl pv pc gv dn wo pp yo tr tg xon xgu ygu hO hV hQ hP hC hc hx (by omega) (fun x' hx' => by have := h1 x' hx'; omega) (fun x' hx' hw => ?_) hf hd
      · obtain ⟨wk', nx', gi', yts', nm', ct', xdn', xsn', xpr', xcl', vl', pv', pc', gv', dn', wo', pp', yo', tr', tg', xon', xgu', ygu', i1, i2, i3, i4, i5, i6, i7, i8, i9, i10, i11⟩ := IH
        refine ⟨wk', nx', gi', yts', nm', ct', xdn', xsn', xpr', xcl', vl', pv', pc', gv', dn', wo', pp', yo', tr', tg', xon', xgu', ygu', i1, i2, i3, i4, i5, i6, i7, i8, i9, fun posu hp => ?_, i11⟩
        rw [wX_cycle_34]
        refine br_f (nI_pos (by omega)) ⟨vp_in_nI (by omega) (by omega), ?_⟩
        rw [ar_is, nI_clamp (by omega), ar_Oap]
        refine br_t (by rw [hz]; decide) (fun y ey => ?_)
        rw [show y = ar_i k from ey.trans (ar_ad1 _)]
        exact i10 posu hp
      · have q1 := h2 x' hx' hw
        rcases Nat.lt_or_ge x x' with c | c
        · have := re_lt hO (x := x) (y := x') c hw
          have := h2 x (Nat.le_refl _) (by omega)
          omega
        · have e : x' = x := by omega
          subst e
          have : sy x' ≠ k := fun q => here ⟨hw, q⟩
          omega
end
end
section
/-! moving on, and noting a commit -/
def re_cp (b a n : Nat) (f : Nat → Nat) : Nat → Nat := fun i => if b ≤ i ∧ i < b + n then f (a + (i - b)) else f i
theorem re_cp0 (b a : Nat) (f : Nat → Nat) : re_cp b a 0 f = f := by
  funext i
  unfold re_cp
  rw [if_neg (by omega)]
theorem re_cpS {b a n : Nat} {f : Nat → Nat} (h : a + n < b ∨ b + n ≤ a + n) : ar_u (re_cp b a n f) (b + n) (re_cp b a n f (a + n)) = re_cp b a (n + 1) f := by
  funext i
  unfold re_cp ar_u
  by_cases z : i = b + n
  · subst z
    rw [if_pos rfl, if_neg (by omega), if_pos (by omega), Nat.add_sub_cancel_left]
  · rw [if_neg z]
    dsimp only
    by_cases z2 : b ≤ i ∧ i < b + n
    · rw [if_pos z2, if_pos (by omega)]
    · rw [if_neg z2, if_neg (by omega)]
theorem re_cpI {b a n m : Nat} {f : Nat → Nat} (h : m < n) : re_cp b a n f (b + m) = f (a + m) := by
  unfold re_cp
  rw [if_pos (by omega), Nat.add_sub_cancel_left]
theorem re_cpX {b a n i : Nat} {f : Nat → Nat} (h : i < b ∨ b + n ≤ i) : re_cp b a n f i = f i := by
  unfold re_cp
  rw [if_neg (by omega)]
section
variable {st nd bu nx wk kc1 kc0 kc2 kc3 kc4 kc5 kc6 kc7 gi ad : Nat} {xad xga xto yad yts yga : Int32} {kd sb tc sg wd fa ww so rg ce nm xdn xsn xpr xcl ct nb sy vl pv pc gv dn wo pp yo wh wt wi tr tg cd ws : Nat → Nat} {gs xcd xws xon xgu xlf xrt xlv ybs ycs ywd ycd yws ygu yone ytwo ylv : Nat → Int32} {xtr : Nat → Int64}
variable {posu : SX → Prop} {pos2 : SY → Prop}
theorem xq_move99 {s : Nat} (hs : s + 1 < 5) (hp : posu (nI st, nI nd, nI bu, xad, nI nx, xga, xto, ar_N kd, ar_N sb, ar_N tc, ar_N sg, ar_N wd, ar_N fa, ar_N ww, gs, ar_O so, xcd, xws, ar_N rg, ar_N ce, ar_O (ar_u nm s 0), xon, xgu, ar_N xdn, ar_N xsn, ar_N (re_cp (7 * (s + 1)) (7 * s) 7 xpr), ar_N xcl, xtr, ar_N ct, xlf, xrt, xlv)) : ∀ d t, t + d = 7 → wX_move_99 posu (nI s) (nI (s + 1)) (nI st) (nI nd) (nI bu) xad (nI nx) xga xto (d + 1) (nI t) (ar_N kd) (ar_N sb) (ar_N tc) (ar_N sg) (ar_N wd) (ar_N fa) (ar_N ww) gs (ar_O so) xcd xws (ar_N rg) (ar_N ce) (ar_O nm) xon xgu (ar_N xdn) (ar_N xsn) (ar_N (re_cp (7 * (s + 1)) (7 * s) t xpr)) (ar_N xcl) xtr (ar_N ct) xlf xrt xlv := by
  intro d
  induction d with
  | zero =>
    intro t ht
    have e : t = 7 := by omega
    subst e
    rw [wX_move_99]
    refine br_t (by decide) ⟨vp_in_nI (by omega) (by omega), fun y ey => ?_⟩
    rw [nI_clamp (by omega), show (-1 : Int32) = ar_i 0 from rfl, ar_uO] at ey
    rw [ey]
    exact hp
  | succ d ih =>
    intro t ht
    have i1 := ih (t + 1) (by omega)
    rw [wX_move_99]
    refine br_f (nI_nlt (a := 6) (by omega) (by omega)) ?_
    have e7 : ∀ q, (7 : Int32) * nI q + nI t = nI (7 * q + t) := fun q => by rw [show (7 : Int32) = nI 7 from rfl, ar_mul, ar_add]
    rw [e7, e7]
    refine ⟨vp_in_nI (by omega) (by omega), vp_in_nI (by omega) (by omega), fun y ey w ew => ?_⟩
    rw [nI_clamp (by omega), nI_clamp (by omega), ar_Nap, ar_uN, re_cpS (by omega)] at ey
    rw [ey, ew, nI_1]
    exact i1
theorem xq_move61 {s : Nat} (hd : nd ≤ 24) (hs : s + 1 < 5) (hp : ∃ f, wX_move_99 posu (nI s) (nI (s + 1)) (nI st) (nI nd) (nI bu) xad (nI nx) xga xto f (nI 0) (ar_N kd) (ar_N sb) (ar_N tc) (ar_N sg) (ar_N wd) (ar_N fa) (ar_N ww) gs (ar_O so) xcd xws (ar_N rg) (ar_N ce) (ar_O nm) xon xgu (ar_N xdn) (ar_N (re_cp (24 * (s + 1)) (24 * s) nd xsn)) (ar_N xpr) (ar_N xcl) xtr (ar_N ct) xlf xrt xlv) : ∀ d n, n + d = nd → wX_move_61 posu (nI s) (nI (s + 1)) (nI st) (nI nd) (nI bu) xad (nI nx) xga xto (d + 1) (nI n) (ar_N kd) (ar_N sb) (ar_N tc) (ar_N sg) (ar_N wd) (ar_N fa) (ar_N ww) gs (ar_O so) xcd xws (ar_N rg) (ar_N ce) (ar_O nm) xon xgu (ar_N xdn) (ar_N (re_cp (24 * (s + 1)) (24 * s) n xsn)) (ar_N xpr) (ar_N xcl) xtr (ar_N ct) xlf xrt xlv := by
  intro d
  induction d with
  | zero =>
    intro n hn
    have e : n = nd := by omega
    subst e
    rw [wX_move_61]
    exact br_t (nI_le (by omega) (by omega)) hp
  | succ d ih =>
    intro n hn
    have i1 := ih (n + 1) (by omega)
    rw [wX_move_61]
    refine br_f (nI_ge (by omega) (by omega)) ?_
    have e24 : ∀ q, (24 : Int32) * nI q + nI n = nI (24 * q + n) := fun q => by rw [show (24 : Int32) = nI 24 from rfl, ar_mul, ar_add]
    rw [e24, e24]
    refine ⟨vp_in_nI (by omega) (by omega), vp_in_nI (by omega) (by omega), fun y ey w ew => ?_⟩
    rw [nI_clamp (by omega), nI_clamp (by omega), ar_Nap, ar_uN, re_cpS (by omega)] at ey
    rw [ey, ew, nI_1]
    exact i1
theorem xq_move {s : Nat} (hd : nd ≤ 24) (hs : s + 1 < 5) (hcl : xcl s < 16) (hp : posu (nI st, nI nd, nI bu, xad, nI nx, xga, xto, ar_N kd, ar_N sb, ar_N tc, ar_N sg, ar_N wd, ar_N fa, ar_N ww, gs, ar_O so, xcd, xws, ar_N rg, ar_N ce, ar_O (ar_u (ar_u nm (s + 1) (nm s)) s 0), upd xon (s + 1) (xon s), upd xgu (s + 1) (xgu s), ar_N (ar_u xdn (s + 1) 0), ar_N (re_cp (24 * (s + 1)) (24 * s) nd xsn), ar_N (re_cp (7 * (s + 1)) (7 * s) 7 xpr), ar_N (ar_u xcl (s + 1) (xcl s)), xtr, ar_N ct, xlf, xrt, xlv)) : wpX_move posu (nI st, nI nd, nI bu, xad, nI nx, xga, xto, ar_N kd, ar_N sb, ar_N tc, ar_N sg, ar_N wd, ar_N fa, ar_N ww, gs, ar_O so, xcd, xws, ar_N rg, ar_N ce, ar_O nm, xon, xgu, ar_N xdn, ar_N xsn, ar_N xpr, ar_N xcl, xtr, ar_N ct, xlf, xrt, xlv) (nI s) := by
  have b0 : vp_in (nI s) 5 := vp_in_nI (by omega) (by omega)
  have b1 : vp_in (nI (s + 1)) 5 := vp_in_nI (by omega) (by omega)
  unfold wpX_move
  intro y ey
  rw [nI_1] at ey
  rw [ey, nI_clamp (by omega), nI_clamp (by omega)]
  refine ⟨b0, b1, fun v1 e1 => ⟨b0, b1, fun v2 e2 => ⟨b0, b1, fun v3 e3 => ⟨b0, b1, fun v4 e4 => ⟨b1, fun v5 e5 => ⟨nd + 1, ?_⟩⟩⟩⟩⟩⟩
  rw [ar_Oap, ar_uO] at e1
  rw [ar_Nap, ar_byR _ (by omega), ar_uN] at e4
  rw [show (0 : Int32) = nI 0 from rfl, ar_bo0, ar_uN] at e5
  rw [e1, e2, e3, e4, e5]
  have k1 := xq_move99 (posu := posu) (nm := ar_u nm (s + 1) (nm s)) (xon := upd xon (s + 1) (xon s)) (xgu := upd xgu (s + 1) (xgu s)) (xcl := ar_u xcl (s + 1) (xcl s)) (xdn := ar_u xdn (s + 1) 0) (xsn := re_cp (24 * (s + 1)) (24 * s) nd xsn) hs hp 7 0 (by omega)
  rw [re_cp0] at k1
  have k2 := xq_move61 (posu := posu) (nm := ar_u nm (s + 1) (nm s)) (xon := upd xon (s + 1) (xon s)) (xgu := upd xgu (s + 1) (xgu s)) (xcl := ar_u xcl (s + 1) (xcl s)) (xdn := ar_u xdn (s + 1) 0) (xsn := xsn) hd hs ⟨8, k1⟩ nd 0 (by omega)
  rw [re_cp0] at k2
  exact k2
theorem ar_tr {w v n : Nat} (hw : w < 65536) (hv : v < 65536) (hn : n < 2147483648) : (((nI n).toInt64 <<< ((32 : Int32).toInt64 &&& 63)) ||| ((nI w).toInt64 <<< ((16 : Int32).toInt64 &&& 63))) ||| (nI v).toInt64 = lN (n * 4294967296 + w * 65536 + v) := by
  rw [nI_l (by omega), nI_l (by omega), nI_l (by omega), show (32 : Int32) = nI 32 from rfl, show (16 : Int32) = nI 16 from rfl, wb_shl _ (by decide), wb_shl _ (by decide)]
  rw [g_or (k := 32) (p := 2 ^ 32) (a := w * 2 ^ 16) (b := n) rfl (by omega) (by omega)]
  have e : n * 2 ^ 32 + w * 2 ^ 16 = (n * 65536 + w) * 65536 := by omega
  rw [e, g_or (k := 16) (p := 65536) (a := v) (b := n * 65536 + w) (by decide) hv (by omega)]
theorem xq_note {w v n : Nat} (hw : w < 65536) (hv : v < 65536) (hn : n < 2147483648) (h7 : ct 7 < 2 ^ 31) (hp : posu (nI st, nI nd, nI bu, xad, nI nx, xga, xto, ar_N kd, ar_N sb, ar_N tc, ar_N sg, ar_N wd, ar_N fa, ar_N ww, gs, ar_O so, xcd, xws, ar_N rg, ar_N ce, ar_O nm, xon, xgu, ar_N xdn, ar_N xsn, ar_N xpr, ar_N xcl, vp_updL xtr (ct 7 % 64) (lN (n * 4294967296 + w * 65536 + v)), ar_N (ar_u ct 7 (ct 7 + 1)), xlf, xrt, xlv)) : wpX_note posu (nI st, nI nd, nI bu, xad, nI nx, xga, xto, ar_N kd, ar_N sb, ar_N tc, ar_N sg, ar_N wd, ar_N fa, ar_N ww, gs, ar_O so, xcd, xws, ar_N rg, ar_N ce, ar_O nm, xon, xgu, ar_N xdn, ar_N xsn, ar_N xpr, ar_N xcl, xtr, ar_N ct, xlf, xrt, xlv) (nI w) (nI v) (nI n) := by
  have hm := Nat.mod_lt (ct 7) (show 64 > 0 by decide)
  unfold wpX_note
  dsimp only
  rw [ar_Nap, show nI (ct 7) - nI (ct 7) / 64 * 64 = nI (ct 7 % 64) from ar_r64 h7, nI_clamp (by omega), ar_tr hw hv hn, nI_1, ar_uN]
  exact ⟨by decide, vp_in_nI hm (by omega), fun y ey z ez => by rw [ey, ez]; exact hp⟩
theorem yq_note {w v : Nat} (h7 : kc7 < 2 ^ 31) (hp : pos2 (nI st, nI nd, nI bu, yad, nI wk, nI nx, nI kc1, nI kc0, nI kc2, nI kc3, nI kc4, nI kc5, nI kc6, nI (kc7 + 1), yts, nI gi, yga, ar_N ww, ar_N rg, ar_N ce, gs, ar_N kd, ar_N fa, ybs, ycs, ar_N sg, ywd, ar_O so, ycd, yws, ar_N nb, ar_N sy, ar_N vl, ar_N pv, ar_N pc, ygu, ar_N gv, ar_N dn, ar_N wo, ar_N pp, ar_N yo, ar_N (ar_u wh (kc7 % 64) w), ar_N (ar_u wt (kc7 % 64) v), ar_N (ar_u wi (kc7 % 64) (nb 0)), ar_N tr, ar_N tg, yone, ytwo, ylv)) : wpY_note pos2 (nI st, nI nd, nI bu, yad, nI wk, nI nx, nI kc1, nI kc0, nI kc2, nI kc3, nI kc4, nI kc5, nI kc6, nI kc7, yts, nI gi, yga, ar_N ww, ar_N rg, ar_N ce, gs, ar_N kd, ar_N fa, ybs, ycs, ar_N sg, ywd, ar_O so, ycd, yws, ar_N nb, ar_N sy, ar_N vl, ar_N pv, ar_N pc, ygu, ar_N gv, ar_N dn, ar_N wo, ar_N pp, ar_N yo, ar_N wh, ar_N wt, ar_N wi, ar_N tr, ar_N tg, yone, ytwo, ylv) (nI w) (nI v) := by
  have hm := Nat.mod_lt kc7 (show 64 > 0 by decide)
  have b := vp_in_nI hm (show 64 < 2 ^ 31 by omega)
  unfold wpY_note
  dsimp only
  rw [show nI kc7 - nI kc7 / 64 * 64 = nI (kc7 % 64) from ar_r64 h7, nI_clamp (by omega), ar_Nap, nI_1, ar_uN, ar_uN, ar_uN]
  exact ⟨by decide, b, fun y ey => ⟨by decide, b, fun z ez => ⟨by decide, b, fun u eu v ev => by rw [ey, ez, eu, ev]; exact hp⟩⟩⟩
end
end
section
/-! a commit's writes, both sides -/
def re_T (wh wt wi : Nat → Nat) (xtr : Nat → Int64) : Prop := ∀ i, xtr i = lN (wi i * 4294967296 + wh i * 65536 + wt i) ∧ wh i < 65536 ∧ wt i < 65536 ∧ wi i < 536870912
theorem re_Tn {wh wt wi : Nat → Nat} {xtr : Nat → Int64} {j w v n : Nat} (h : re_T wh wt wi xtr) (hw : w < 65536) (hv : v < 65536) (hn : n < 536870912) : re_T (ar_u wh j w) (ar_u wt j v) (ar_u wi j n) (vp_updL xtr j (lN (n * 4294967296 + w * 65536 + v))) := by
  intro i
  by_cases e : i = j
  · subst e
    rw [ar_us, ar_us, ar_us, pk_uLs]
    exact ⟨rfl, hw, hv, hn⟩
  · rw [ar_un e, ar_un e, ar_un e, pk_uLn e]
    exact h i
section
variable {st nd bu nx wk kc1 kc0 kc2 kc3 kc4 kc5 kc6 kc7 gi ad : Nat} {xad xga xto yad yts yga : Int32} {kd sb tc sg wd fa ww so rg ce nm xdn xsn xpr xcl ct nb sy vl pv pc gv dn wo pp yo wh wt wi tr tg cd ws : Nat → Nat} {gs xcd xws xon xgu xlf xrt xlv ybs ycs ywd ycd yws ygu yone ytwo ylv : Nat → Int32} {xtr : Nat → Int64}
theorem pr_cloop (hM : re_M st nd kd fa sb tc sg wd ww so cd ws ad gs xcd xws ycd yws ybs ycs xad yad) (h5 : sy 0 < 5) (hnm : nm (sy 0) = nb 0 + 1) (hnb : nb 0 < 536870912)
    (hq : ∀ t, t < 7 → pp t ≤ 1 ∧ yo t ≤ 1 ∧ (bt (xon (sy 0)) t = true ↔ (pp t = 1 ∧ yo t = 1)) ∧ (pp t = 1 → xpr (7 * sy 0 + t) = pv t ∧ pv t < 2 ^ (if t = 6 then 8 else ww t)))
    (hcl : pp 6 = 1 → xcl (sy 0) = pc 0 ∧ pc 0 < 16) (hce : ∀ k, k < 16 → ce k < 256) :
    ∀ d r (rg ct wh wt wi : Nat → Nat) (xtr : Nat → Int64), r + d = 6 → (∀ r, r < 6 → rg r < 2 ^ ww r) → re_T wh wt wi xtr → ct 7 + d + 1 < 2 ^ 31 →
    ∃ (rg' ce' ct' wh' wt' wi' : Nat → Nat) (xtr' : Nat → Int64), (∀ r, r < 6 → rg' r < 2 ^ ww r) ∧ (∀ k, k < 16 → ce' k < 256) ∧ re_T wh' wt' wi' xtr' ∧ ct' 7 ≤ ct 7 + d + 1 ∧ (∀ i, i ≠ 7 → ct' i = ct i) ∧
      (∀ posu : SX → Prop, wX_commit_133 posu (nI (sy 0)) (nI st) (nI nd) (nI bu) xad (nI nx) xga xto (ar_N kd) (ar_N sb) (ar_N tc) (ar_N sg) (ar_N wd) (ar_N fa) (ar_N ww) gs (ar_O so) xcd xws (ar_N rg') (ar_N ce') (ar_O nm) xon xgu (ar_N xdn) (ar_N xsn) (ar_N xpr) (ar_N xcl) xtr' (ar_N ct') xlf xrt xlv → wX_commit_2 posu (nI (sy 0)) (d + 1) (nI r) (nI st) (nI nd) (nI bu) xad (nI nx) xga xto (ar_N kd) (ar_N sb) (ar_N tc) (ar_N sg) (ar_N wd) (ar_N fa) (ar_N ww) gs (ar_O so) xcd xws (ar_N rg) (ar_N ce) (ar_O nm) xon xgu (ar_N xdn) (ar_N xsn) (ar_N xpr) (ar_N xcl) xtr (ar_N ct) xlf xrt xlv) ∧
      (∀ pos2 : SY → Prop, wY_commit_116 pos2 (nI st) (nI nd) (nI bu) yad (nI wk) (nI nx) (nI (ct' 1)) (nI (ct' 0)) (nI (ct' 2)) (nI (ct' 3)) (nI (ct' 4)) (nI (ct' 5)) (nI (ct' 6)) (nI (ct' 7)) yts (nI gi) yga (ar_N ww) (ar_N rg') (ar_N ce') gs (ar_N kd) (ar_N fa) ybs ycs (ar_N sg) ywd (ar_O so) ycd yws (ar_N nb) (ar_N sy) (ar_N vl) (ar_N pv) (ar_N pc) ygu (ar_N gv) (ar_N dn) (ar_N wo) (ar_N pp) (ar_N yo) (ar_N wh') (ar_N wt') (ar_N wi') (ar_N tr) (ar_N tg) yone ytwo ylv → wY_commit_2 pos2 (d + 1) (nI r) (nI st) (nI nd) (nI bu) yad (nI wk) (nI nx) (nI (ct 1)) (nI (ct 0)) (nI (ct 2)) (nI (ct 3)) (nI (ct 4)) (nI (ct 5)) (nI (ct 6)) (nI (ct 7)) yts (nI gi) yga (ar_N ww) (ar_N rg) (ar_N ce) gs (ar_N kd) (ar_N fa) ybs ycs (ar_N sg) ywd (ar_O so) ycd yws (ar_N nb) (ar_N sy) (ar_N vl) (ar_N pv) (ar_N pc) ygu (ar_N gv) (ar_N dn) (ar_N wo) (ar_N pp) (ar_N yo) (ar_N wh) (ar_N wt) (ar_N wi) (ar_N tr) (ar_N tg) yone ytwo ylv) := by
  have b5 : vp_in (nI (sy 0)) 5 := vp_in_nI h5 (by omega)
  have e7 : ∀ q, (7 : Int32) * nI (sy 0) + nI q = nI (7 * sy 0 + q) := fun q => by rw [show (7 : Int32) = nI 7 from rfl, ar_mul, ar_add]
  have e76 : (7 : Int32) * nI (sy 0) + 6 = nI (7 * sy 0 + 6) := e7 6
  have enm : ar_O nm (sy 0) = nI (nb 0) := by rw [ar_Oap, hnm, ar_is]
  intro d
  induction d with
  | zero =>
    intro r rg ct wh wt wi xtr hr hrg hT h7
    have e : r = 6 := by omega
    subst e
    obtain ⟨q1, q2, q3, q4⟩ := hq 6 (by omega)
    by_cases on : pp 6 = 1 ∧ yo 6 = 1
    · obtain ⟨c1, c2⟩ := hcl on.1
      obtain ⟨p1, p2⟩ := q4 on.1
      rw [if_pos rfl] at p2
      have p3 : pv 6 < 256 := p2
      refine ⟨rg, ar_u ce (pc 0) (pv 6), ar_u ct 7 (ct 7 + 1), _, _, _, _, hrg, fun k hk => ?_, re_Tn (j := ct 7 % 64) (w := 16 + pc 0) (v := pv 6) (n := nb 0) hT (by omega) (by omega) hnb, ?_, fun i hi => ar_un hi, fun posu hp => ?_, fun pos2 hp => ?_⟩
      · unfold ar_u
        by_cases z : k = pc 0
        · rw [if_pos z]; exact p3
        · rw [if_neg z]; exact hce k hk
      · rw [ar_us]; omega
      · rw [wX_commit_2]
        refine br_t (by decide) ⟨b5, ?_⟩
        rw [nI_clamp (by omega)]
        refine br_t ((ar_bt1 _ (t := 6) (by omega)).mpr (q3.mpr on)) ⟨b5, ?_⟩
        rw [e76, nI_clamp (by omega), ar_Nap, ar_Nap, c1, p1, nI_clamp (by omega), enm]
        refine ⟨vp_in_nI (by omega) (by omega), vp_in_nI c2 (by omega), fun y ey => ⟨b5, b5, vp_in_nI c2 (by omega), b5, ?_⟩⟩
        rw [ar_sh _ (by omega), ar_uN] at ey
        rw [ey, ar_Nap, ar_us, show (16 : Int32) + nI (pc 0) = nI (16 + pc 0) from ar_add 16 _]
        exact xq_note (by omega) (by omega) (by omega) (by omega) hp
      · rw [wY_commit_2]
        refine br_t (by decide) ?_
        refine br_f (by rw [ar_Nap, on.1]; decide) (br_f (by rw [ar_Nap, on.2]; decide) ⟨vp_in_nI c2 (by omega), fun y ey => ?_⟩)
        rw [ar_Nap, ar_Nap, nI_clamp (by omega), ar_uN] at ey
        rw [ey, ar_Nap, ar_Nap, show (16 : Int32) + nI (pc 0) = nI (16 + pc 0) from ar_add 16 _]
        exact yq_note (by omega) hp
    · refine ⟨rg, ce, ct, wh, wt, wi, xtr, hrg, hce, hT, by omega, fun _ _ => rfl, fun posu hp => ?_, fun pos2 hp => ?_⟩
      · rw [wX_commit_2]
        refine br_t (by decide) ⟨b5, ?_⟩
        rw [nI_clamp (by omega)]
        exact br_f (fun z => on (q3.mp ((ar_bt1 _ (t := 6) (by omega)).mp z))) hp
      · rw [wY_commit_2]
        refine br_t (by decide) ?_
        rw [ar_Nap, ar_Nap]
        refine pk_eq (pp 6) 0 (fun _ => hp) (fun z1 => ?_)
        exact pk_eq (yo 6) 0 (fun _ => hp) (fun z2 => absurd ⟨by omega, by omega⟩ on)
  | succ d ih =>
    intro r rg ct wh wt wi xtr hr hrg hT h7
    obtain ⟨q1, q2, q3, q4⟩ := hq r (by omega)
    by_cases on : pp r = 1 ∧ yo r = 1
    · obtain ⟨p1, p2⟩ := q4 on.1
      rw [if_neg (by omega)] at p2
      have p3 : pv r < 65536 := Nat.lt_of_lt_of_le p2 (ar_p16 (hM.2.2.1 r (by omega)).2.1)
      obtain ⟨rg', ce', ct', wh', wt', wi', xtr', i1, i2, i3, i4, i5, i6, i7⟩ := ih (r + 1) (ar_u rg r (pv r)) (ar_u ct 7 (ct 7 + 1)) _ _ _ _ (by omega) (fun r' hr' => by
        unfold ar_u
        by_cases z : r' = r
        · rw [if_pos z, z]; exact p2
        · rw [if_neg z]; exact hrg r' hr') (re_Tn (j := ct 7 % 64) (w := r) (v := pv r) (n := nb 0) hT (by omega) p3 hnb) (by rw [ar_us]; omega)
      rw [ar_us] at i4
      refine ⟨rg', ce', ct', wh', wt', wi', xtr', i1, i2, i3, by omega, fun i hi => (i5 i hi).trans (ar_un hi), fun posu hp => ?_, fun pos2 hp => ?_⟩
      · rw [wX_commit_2]
        refine br_f (nI_ge (b := 6) (by omega) (by omega)) ⟨b5, ?_⟩
        rw [nI_clamp (by omega)]
        refine br_f (fun z => ?_) ?_
        · have := (ar_bt0 _ (by omega)).mp z
          rw [q3.mpr on] at this
          cases this
        rw [e7, nI_clamp (by omega), nI_clamp (by omega), ar_Nap, p1, enm]
        refine ⟨vp_in_nI (by omega) (by omega), vp_in_nI (by omega) (by omega), fun y ey => ⟨vp_in_nI (by omega) (by omega), b5, ?_⟩⟩
        rw [ar_uN] at ey
        rw [ey, ar_Nap, ar_us]
        refine xq_note (by omega) p3 (by omega) (by omega) ?_
        intro w ew
        rw [ew, nI_1]
        exact i6 posu hp
      · rw [wY_commit_2]
        refine br_f (nI_ge (b := 6) (by omega) (by omega)) ⟨vp_in_nI (by omega) (by omega), ?_⟩
        rw [nI_clamp (by omega)]
        refine br_f (by rw [ar_Nap, on.1]; decide) ⟨vp_in_nI (by omega) (by omega), br_f (by rw [ar_Nap, on.2]; decide) ⟨vp_in_nI (by omega) (by omega), vp_in_nI (by omega) (by omega), fun y ey => ⟨vp_in_nI (by omega) (by omega), ?_⟩⟩⟩
        rw [ar_Nap, ar_uN] at ey
        rw [ey, ar_Nap, ar_us]
        refine yq_note (by omega) ?_
        intro w ew
        rw [ew, nI_1]
        exact i7 pos2 hp
    · obtain ⟨rg', ce', ct', wh', wt', wi', xtr', i1, i2, i3, i4, i5, i6, i7⟩ := ih (r + 1) rg ct wh wt wi xtr (by omega) hrg hT (by omega)
      refine ⟨rg', ce', ct', wh', wt', wi', xtr', i1, i2, i3, by omega, i5, fun posu hp => ?_, fun pos2 hp => ?_⟩
      · rw [wX_commit_2]
        refine br_f (nI_ge (b := 6) (by omega) (by omega)) ⟨b5, ?_⟩
        rw [nI_clamp (by omega)]
        refine br_t ((ar_bt0 _ (by omega)).mpr (ts_nt (fun z => on (q3.mp z)))) (fun w ew => ?_)
        rw [ew, nI_1]
        exact i6 posu hp
      · rw [wY_commit_2]
        refine br_f (nI_ge (b := 6) (by omega) (by omega)) ⟨vp_in_nI (by omega) (by omega), ?_⟩
        rw [nI_clamp (by omega), ar_Nap, ar_Nap]
        refine pk_eq (pp r) 0 (fun _ w ew => ?_) (fun z1 => ⟨vp_in_nI (by omega) (by omega), pk_eq (yo r) 0 (fun _ w ew => ?_) (fun z2 => absurd ⟨by omega, by omega⟩ on)⟩)
        · rw [ew, nI_1]
          exact i7 pos2 hp
        · rw [ew, nI_1]
          exact i7 pos2 hp
end
/-! the row moves up: the reference -/
/-- places from x on to w take what lies one place behind -/
def re_s1 {α : Type} (x w : Nat) (f f' : Nat → α) : Prop := (∀ y, y < x → f' y = f y) ∧ ∀ y, x ≤ y → y < w → f' y = f (y + 1)
def re_sh (b x w : Nat) (f f' : Nat → Nat) : Prop := (∀ y, y < x → ∀ n, n < b → f' (b * y + n) = f (b * y + n)) ∧ ∀ y, x ≤ y → y < w → ∀ n, n < b → f' (b * y + n) = f (b * (y + 1) + n)
theorem re_s1r {α : Type} {w : Nat} {f : Nat → α} : re_s1 w w f f := ⟨fun _ _ => rfl, fun y h1 h2 => absurd h2 (by omega)⟩
theorem re_shr {b w : Nat} {f : Nat → Nat} : re_sh b w w f f := ⟨fun _ _ _ _ => rfl, fun y h1 h2 => absurd h2 (by omega)⟩
theorem re_s1u {x w : Nat} {f f' : Nat → Nat} (hx : x < w) (h : re_s1 (x + 1) w (ar_u f x (f (x + 1))) f') : re_s1 x w f f' := by
  refine ⟨fun y hy => ?_, fun y h1 h2 => ?_⟩
  · rw [h.1 y (by omega), ar_un (by omega)]
  · by_cases e : y = x
    · subst e
      rw [h.1 y (by omega), ar_us]
    · rw [h.2 y (by omega) h2, ar_un (by omega)]
theorem re_s1U {x w : Nat} {f f' : Nat → Int32} (hx : x < w) (h : re_s1 (x + 1) w (upd f x (f (x + 1))) f') : re_s1 x w f f' := by
  refine ⟨fun y hy => ?_, fun y h1 h2 => ?_⟩
  · rw [h.1 y (by omega), pk_un (by omega)]
  · by_cases e : y = x
    · subst e
      rw [h.1 y (by omega), pk_us]
    · rw [h.2 y (by omega) h2, pk_un (by omega)]
theorem re_shu {b x w : Nat} {f f' : Nat → Nat} (h : re_sh b (x + 1) w (re_cp (b * x) (b * (x + 1)) b f) f') : re_sh b x w f f' := by
  refine ⟨fun y hy n hn => ?_, fun y h1 h2 n hn => ?_⟩
  · have e : b * y + n < b * x := by
      have := Nat.mul_le_mul_left b (show y + 1 ≤ x by omega)
      rw [Nat.mul_add, Nat.mul_one] at this
      omega
    rw [h.1 y (by omega) n hn, re_cpX (Or.inl e)]
  · by_cases e : y = x
    · subst e
      rw [h.1 y (by omega) n hn, re_cpI hn]
    · have e : b * x + b ≤ b * (y + 1) + n := by
        have := Nat.mul_le_mul_left b (show x + 1 ≤ y + 1 by omega)
        rw [Nat.mul_add b x, Nat.mul_one] at this
        omega
      rw [h.2 y (by omega) h2 n hn, re_cpX (Or.inr e)]
section
variable {st nd bu nx wk kc1 kc0 kc2 kc3 kc4 kc5 kc6 kc7 gi ad : Nat} {xad xga xto yad yts yga : Int32} {kd sb tc sg wd fa ww so rg ce nm xdn xsn xpr xcl ct nb sy vl pv pc gv dn wo pp yo wh wt wi tr tg cd ws : Nat → Nat} {gs xcd xws xon xgu xlf xrt xlv ybs ycs ywd ycd yws ygu yone ytwo ylv : Nat → Int32} {xtr : Nat → Int64}
variable {pos2 : SY → Prop}
theorem yq_shift194 {x : Nat} (hx : x + 1 < 5) (hp : pos2 (nI st, nI nd, nI bu, yad, nI wk, nI nx, nI kc1, nI kc0, nI kc2, nI kc3, nI kc4, nI kc5, nI kc6, nI kc7, yts, nI gi, yga, ar_N ww, ar_N rg, ar_N ce, gs, ar_N kd, ar_N fa, ybs, ycs, ar_N sg, ywd, ar_O so, ycd, yws, ar_N nb, ar_N sy, ar_N vl, ar_N pv, ar_N pc, ygu, ar_N (re_cp (6 * x) (6 * (x + 1)) 6 gv), ar_N dn, ar_N wo, ar_N pp, ar_N yo, ar_N wh, ar_N wt, ar_N wi, ar_N tr, ar_N tg, yone, ytwo, ylv)) : ∀ d t, t + d = 6 → wY_shift_194 pos2 (nI x) (nI st) (nI nd) (nI bu) yad (nI wk) (nI nx) (nI kc1) (nI kc0) (nI kc2) (nI kc3) (nI kc4) (nI kc5) (nI kc6) (nI kc7) yts (nI gi) yga (d + 1) (nI (6 * x + t)) (ar_N ww) (ar_N rg) (ar_N ce) gs (ar_N kd) (ar_N fa) ybs ycs (ar_N sg) ywd (ar_O so) ycd yws (ar_N nb) (ar_N sy) (ar_N vl) (ar_N pv) (ar_N pc) ygu (ar_N (re_cp (6 * x) (6 * (x + 1)) t gv)) (ar_N dn) (ar_N wo) (ar_N pp) (ar_N yo) (ar_N wh) (ar_N wt) (ar_N wi) (ar_N tr) (ar_N tg) yone ytwo ylv := by
  have e6 : (6 : Int32) * nI x + 6 = nI (6 * x + 6) := by rw [show (6 : Int32) = nI 6 from rfl, ar_mul, ar_add]
  intro d
  induction d with
  | zero =>
    intro t ht
    have e : t = 6 := by omega
    subst e
    rw [wY_shift_194, e6]
    exact br_t (nI_le (by omega) (by omega)) hp
  | succ d ih =>
    intro t ht
    have i1 := ih (t + 1) (by omega)
    rw [wY_shift_194, e6]
    refine br_f (nI_ge (by omega) (by omega)) ?_
    rw [show nI (6 * x + t) + 6 = nI (6 * (x + 1) + t) by rw [show (6 : Int32) = nI 6 from rfl, ar_add]; exact congrArg nI (by omega)]
    refine ⟨vp_in_nI (by omega) (by omega), vp_in_nI (by omega) (by omega), fun y ey w ew => ?_⟩
    rw [nI_clamp (by omega), nI_clamp (by omega), ar_Nap, ar_uN, re_cpS (by omega)] at ey
    rw [ey, ew, nI_1]
    exact i1
theorem yq_shift127 {x : Nat} (hx : x + 1 < 5) (hpp : ∀ t, t < 7 → pp (7 * (x + 1) + t) ≤ 1) (hyo : ∀ t, t < 7 → yo (7 * (x + 1) + t) ≤ 1) (hp : ∃ f, wY_shift_194 pos2 (nI x) (nI st) (nI nd) (nI bu) yad (nI wk) (nI nx) (nI kc1) (nI kc0) (nI kc2) (nI kc3) (nI kc4) (nI kc5) (nI kc6) (nI kc7) yts (nI gi) yga f (nI (6 * x)) (ar_N ww) (ar_N rg) (ar_N ce) gs (ar_N kd) (ar_N fa) ybs ycs (ar_N sg) ywd (ar_O so) ycd yws (ar_N nb) (ar_N sy) (ar_N vl) (ar_N (re_cp (7 * x) (7 * (x + 1)) 7 pv)) (ar_N pc) ygu (ar_N gv) (ar_N dn) (ar_N wo) (ar_N (re_cp (7 * x) (7 * (x + 1)) 7 pp)) (ar_N (re_cp (7 * x) (7 * (x + 1)) 7 yo)) (ar_N wh) (ar_N wt) (ar_N wi) (ar_N tr) (ar_N tg) yone ytwo ylv) : ∀ d t, t + d = 7 → wY_shift_127 pos2 (nI x) (nI st) (nI nd) (nI bu) yad (nI wk) (nI nx) (nI kc1) (nI kc0) (nI kc2) (nI kc3) (nI kc4) (nI kc5) (nI kc6) (nI kc7) yts (nI gi) yga (d + 1) (nI (7 * x + t)) (ar_N ww) (ar_N rg) (ar_N ce) gs (ar_N kd) (ar_N fa) ybs ycs (ar_N sg) ywd (ar_O so) ycd yws (ar_N nb) (ar_N sy) (ar_N vl) (ar_N (re_cp (7 * x) (7 * (x + 1)) t pv)) (ar_N pc) ygu (ar_N gv) (ar_N dn) (ar_N wo) (ar_N (re_cp (7 * x) (7 * (x + 1)) t pp)) (ar_N (re_cp (7 * x) (7 * (x + 1)) t yo)) (ar_N wh) (ar_N wt) (ar_N wi) (ar_N tr) (ar_N tg) yone ytwo ylv := by
  have e7 : (7 : Int32) * nI x + 7 = nI (7 * x + 7) := by rw [show (7 : Int32) = nI 7 from rfl, ar_mul, ar_add]
  intro d
  induction d with
  | zero =>
    intro t ht
    have e : t = 7 := by omega
    subst e
    rw [wY_shift_127, e7]
    refine br_t (nI_le (by omega) (by omega)) (fun y ey => ?_)
    rw [show (6 : Int32) * nI x = nI (6 * x) from ar_mul 6 x] at ey
    rw [ey]
    exact hp
  | succ d ih =>
    intro t ht
    have i1 := ih (t + 1) (by omega)
    rw [wY_shift_127, e7]
    refine br_f (nI_ge (by omega) (by omega)) ?_
    have b1 : vp_in (nI (7 * x + t)) 35 := vp_in_nI (by omega) (by omega)
    have b2 : vp_in (nI (7 * (x + 1) + t)) 35 := vp_in_nI (by omega) (by omega)
    rw [show nI (7 * x + t) + 7 = nI (7 * (x + 1) + t) by rw [show (7 : Int32) = nI 7 from rfl, ar_add]; exact congrArg nI (by omega), nI_clamp (by omega), nI_clamp (by omega)]
    refine ⟨b2, b1, fun y ey => ⟨b2, b1, fun z ez => ⟨b2, b1, fun u eu w ew => ?_⟩⟩⟩
    have p1 : re_cp (7 * x) (7 * (x + 1)) t pp (7 * (x + 1) + t) ≤ 1 := by rw [re_cpX (by omega)]; exact hpp t (by omega)
    have p2 : re_cp (7 * x) (7 * (x + 1)) t yo (7 * (x + 1) + t) ≤ 1 := by rw [re_cpX (by omega)]; exact hyo t (by omega)
    rw [ar_Nap, ar_bo p1, ar_uN, re_cpS (by omega)] at ey
    rw [ar_Nap, ar_bo p2, ar_uN, re_cpS (by omega)] at ez
    rw [ar_Nap, ar_uN, re_cpS (by omega)] at eu
    rw [ey, ez, eu, ew, nI_1]
    exact i1
theorem yq_shift75 {x : Nat} (hx : x + 1 < 5) (hwo : ∀ n, n < 24 → wo (24 * (x + 1) + n) ≤ 1) (hp : ∃ f, wY_shift_127 pos2 (nI x) (nI st) (nI nd) (nI bu) yad (nI wk) (nI nx) (nI kc1) (nI kc0) (nI kc2) (nI kc3) (nI kc4) (nI kc5) (nI kc6) (nI kc7) yts (nI gi) yga f (nI (7 * x)) (ar_N ww) (ar_N rg) (ar_N ce) gs (ar_N kd) (ar_N fa) ybs ycs (ar_N sg) ywd (ar_O so) ycd yws (ar_N nb) (ar_N sy) (ar_N (re_cp (24 * x) (24 * (x + 1)) 24 vl)) (ar_N pv) (ar_N pc) ygu (ar_N gv) (ar_N dn) (ar_N (re_cp (24 * x) (24 * (x + 1)) 24 wo)) (ar_N pp) (ar_N yo) (ar_N wh) (ar_N wt) (ar_N wi) (ar_N tr) (ar_N tg) yone ytwo ylv) : ∀ d t, t + d = 24 → wY_shift_75 pos2 (nI x) (nI st) (nI nd) (nI bu) yad (nI wk) (nI nx) (nI kc1) (nI kc0) (nI kc2) (nI kc3) (nI kc4) (nI kc5) (nI kc6) (nI kc7) yts (nI gi) yga (d + 1) (nI (24 * x + t)) (ar_N ww) (ar_N rg) (ar_N ce) gs (ar_N kd) (ar_N fa) ybs ycs (ar_N sg) ywd (ar_O so) ycd yws (ar_N nb) (ar_N sy) (ar_N (re_cp (24 * x) (24 * (x + 1)) t vl)) (ar_N pv) (ar_N pc) ygu (ar_N gv) (ar_N dn) (ar_N (re_cp (24 * x) (24 * (x + 1)) t wo)) (ar_N pp) (ar_N yo) (ar_N wh) (ar_N wt) (ar_N wi) (ar_N tr) (ar_N tg) yone ytwo ylv := by
  have e24 : (24 : Int32) * nI x + 24 = nI (24 * x + 24) := by rw [show (24 : Int32) = nI 24 from rfl, ar_mul, ar_add]
  intro d
  induction d with
  | zero =>
    intro t ht
    have e : t = 24 := by omega
    subst e
    rw [wY_shift_75, e24]
    refine br_t (nI_le (by omega) (by omega)) (fun y ey => ?_)
    rw [show (7 : Int32) * nI x = nI (7 * x) from ar_mul 7 x] at ey
    rw [ey]
    exact hp
  | succ d ih =>
    intro t ht
    have i1 := ih (t + 1) (by omega)
    rw [wY_shift_75, e24]
    refine br_f (nI_ge (by omega) (by omega)) ?_
    have b1 : vp_in (nI (24 * x + t)) 120 := vp_in_nI (by omega) (by omega)
    have b2 : vp_in (nI (24 * (x + 1) + t)) 120 := vp_in_nI (by omega) (by omega)
    rw [show nI (24 * x + t) + 24 = nI (24 * (x + 1) + t) by rw [show (24 : Int32) = nI 24 from rfl, ar_add]; exact congrArg nI (by omega), nI_clamp (by omega), nI_clamp (by omega)]
    refine ⟨b2, b1, fun y ey => ⟨b2, b1, fun z ez w ew => ?_⟩⟩
    have p1 : re_cp (24 * x) (24 * (x + 1)) t wo (24 * (x + 1) + t) ≤ 1 := by rw [re_cpX (by omega)]; exact hwo t (by omega)
    rw [ar_Nap, ar_uN, re_cpS (by omega)] at ey
    rw [ar_Nap, ar_bo p1, ar_uN, re_cpS (by omega)] at ez
    rw [ey, ez, ew, nI_1]
    exact i1
theorem yq_shift {x : Nat} (hx : x + 1 < 5) (hdn : dn (x + 1) ≤ 1) (hpp : ∀ t, t < 7 → pp (7 * (x + 1) + t) ≤ 1) (hyo : ∀ t, t < 7 → yo (7 * (x + 1) + t) ≤ 1) (hwo : ∀ n, n < 24 → wo (24 * (x + 1) + n) ≤ 1)
    (hp : pos2 (nI st, nI nd, nI bu, yad, nI wk, nI nx, nI kc1, nI kc0, nI kc2, nI kc3, nI kc4, nI kc5, nI kc6, nI kc7, yts, nI gi, yga, ar_N ww, ar_N rg, ar_N ce, gs, ar_N kd, ar_N fa, ybs, ycs, ar_N sg, ywd, ar_O so, ycd, yws, ar_N (ar_u nb x (nb (x + 1))), ar_N (ar_u sy x (sy (x + 1))), ar_N (re_cp (24 * x) (24 * (x + 1)) 24 vl), ar_N (re_cp (7 * x) (7 * (x + 1)) 7 pv), ar_N (ar_u pc x (pc (x + 1))), upd ygu x (ygu (x + 1)), ar_N (re_cp (6 * x) (6 * (x + 1)) 6 gv), ar_N (ar_u dn x (dn (x + 1))), ar_N (re_cp (24 * x) (24 * (x + 1)) 24 wo), ar_N (re_cp (7 * x) (7 * (x + 1)) 7 pp), ar_N (re_cp (7 * x) (7 * (x + 1)) 7 yo), ar_N wh, ar_N wt, ar_N wi, ar_N tr, ar_N tg, yone, ytwo, ylv)) : wpY_shift pos2 (nI st, nI nd, nI bu, yad, nI wk, nI nx, nI kc1, nI kc0, nI kc2, nI kc3, nI kc4, nI kc5, nI kc6, nI kc7, yts, nI gi, yga, ar_N ww, ar_N rg, ar_N ce, gs, ar_N kd, ar_N fa, ybs, ycs, ar_N sg, ywd, ar_O so, ycd, yws, ar_N nb, ar_N sy, ar_N vl, ar_N pv, ar_N pc, ygu, ar_N gv, ar_N dn, ar_N wo, ar_N pp, ar_N yo, ar_N wh, ar_N wt, ar_N wi, ar_N tr, ar_N tg, yone, ytwo, ylv) (nI x) := by
  have b0 : vp_in (nI x) 5 := vp_in_nI (by omega) (by omega)
  have b1 : vp_in (nI (x + 1)) 5 := vp_in_nI (by omega) (by omega)
  unfold wpY_shift
  dsimp only
  rw [nI_1, nI_clamp (by omega), nI_clamp (by omega)]
  refine ⟨b1, b0, fun v1 e1 => ⟨b1, b0, fun v2 e2 => ⟨b1, b0, fun v3 e3 => ⟨b1, b0, fun v4 e4 => ⟨b1, b0, fun v5 e5 y ey => ⟨25, ?_⟩⟩⟩⟩⟩⟩
  rw [ar_Nap, ar_uN] at e1 e2 e4
  rw [ar_Nap, ar_bo hdn, ar_uN] at e3
  rw [show (24 : Int32) * nI x = nI (24 * x) from ar_mul 24 x] at ey
  rw [e1, e2, e3, e4, e5, ey]
  have k1 := yq_shift194 (pos2 := pos2) hx hp 6 0 (by omega)
  rw [re_cp0] at k1
  have k2 := yq_shift127 (pos2 := pos2) (pp := pp) (yo := yo) (pv := pv) hx hpp hyo ⟨7, k1⟩ 7 0 (by omega)
  rw [re_cp0, re_cp0, re_cp0] at k2
  have k3 := yq_shift75 (pos2 := pos2) (vl := vl) (wo := wo) hx hwo ⟨8, k2⟩ 24 0 (by omega)
  rw [re_cp0, re_cp0] at k3
  exact k3
theorem yq_shiftAll (h5 : wk + 1 ≤ 5) : ∀ d x (nb sy dn pc vl wo pp yo pv gv : Nat → Nat) (ygu : Nat → Int32), x + d = wk → (∀ y, x ≤ y → y < wk → dn (y + 1) ≤ 1 ∧ (∀ t, t < 7 → pp (7 * (y + 1) + t) ≤ 1) ∧ (∀ t, t < 7 → yo (7 * (y + 1) + t) ≤ 1) ∧ (∀ n, n < 24 → wo (24 * (y + 1) + n) ≤ 1)) →
    ∃ (nb' sy' dn' pc' vl' wo' pp' yo' pv' gv' : Nat → Nat) (ygu' : Nat → Int32), re_s1 x wk nb nb' ∧ re_s1 x wk sy sy' ∧ re_s1 x wk dn dn' ∧ re_s1 x wk pc pc' ∧ re_s1 x wk ygu ygu' ∧ re_sh 24 x wk vl vl' ∧ re_sh 24 x wk wo wo' ∧ re_sh 7 x wk pp pp' ∧ re_sh 7 x wk yo yo' ∧ re_sh 7 x wk pv pv' ∧ re_sh 6 x wk gv gv' ∧ (∀ i, ∃ j, yo' i = yo j) ∧
      ∀ pos2 : SY → Prop, pos2 (nI st, nI nd, nI bu, yad, nI wk, nI nx, nI kc1, nI kc0, nI kc2, nI kc3, nI kc4, nI kc5, nI kc6, nI kc7, yts, nI gi, yga, ar_N ww, ar_N rg, ar_N ce, gs, ar_N kd, ar_N fa, ybs, ycs, ar_N sg, ywd, ar_O so, ycd, yws, ar_N nb', ar_N sy', ar_N vl', ar_N pv', ar_N pc', ygu', ar_N gv', ar_N dn', ar_N wo', ar_N pp', ar_N yo', ar_N wh, ar_N wt, ar_N wi, ar_N tr, ar_N tg, yone, ytwo, ylv) → wY_commit_138 pos2 (d + 1) (nI x) (nI st) (nI nd) (nI bu) yad (nI wk) (nI nx) (nI kc1) (nI kc0) (nI kc2) (nI kc3) (nI kc4) (nI kc5) (nI kc6) (nI kc7) yts (nI gi) yga (ar_N ww) (ar_N rg) (ar_N ce) gs (ar_N kd) (ar_N fa) ybs ycs (ar_N sg) ywd (ar_O so) ycd yws (ar_N nb) (ar_N sy) (ar_N vl) (ar_N pv) (ar_N pc) ygu (ar_N gv) (ar_N dn) (ar_N wo) (ar_N pp) (ar_N yo) (ar_N wh) (ar_N wt) (ar_N wi) (ar_N tr) (ar_N tg) yone ytwo ylv := by
  intro d
  induction d with
  | zero =>
    intro x nb sy dn pc vl wo pp yo pv gv ygu hx hb
    have e : x = wk := by omega
    subst e
    refine ⟨nb, sy, dn, pc, vl, wo, pp, yo, pv, gv, ygu, re_s1r, re_s1r, re_s1r, re_s1r, re_s1r, re_shr, re_shr, re_shr, re_shr, re_shr, re_shr, fun i => ⟨i, rfl⟩, fun pos2 hp => ?_⟩
    rw [wY_commit_138]
    exact br_t (nI_le (by omega) (by omega)) hp
  | succ d ih =>
    intro x nb sy dn pc vl wo pp yo pv gv ygu hx hb
    obtain ⟨nb', sy', dn', pc', vl', wo', pp', yo', pv', gv', ygu', i1, i2, i3, i4, i5, i6, i7, i8, i9, i10, i11, i13, i12⟩ := ih (x + 1) (ar_u nb x (nb (x + 1))) (ar_u sy x (sy (x + 1))) (ar_u dn x (dn (x + 1))) (ar_u pc x (pc (x + 1))) (re_cp (24 * x) (24 * (x + 1)) 24 vl) (re_cp (24 * x) (24 * (x + 1)) 24 wo) (re_cp (7 * x) (7 * (x + 1)) 7 pp) (re_cp (7 * x) (7 * (x + 1)) 7 yo) (re_cp (7 * x) (7 * (x + 1)) 7 pv) (re_cp (6 * x) (6 * (x + 1)) 6 gv) (upd ygu x (ygu (x + 1))) (by omega) (fun y h1 h2 => by
      obtain ⟨c1, c2, c3, c4⟩ := hb y (by omega) h2
      refine ⟨by rw [ar_un (by omega)]; exact c1, fun t ht => ?_, fun t ht => ?_, fun n hn => ?_⟩
      · rw [re_cpX (by omega)]; exact c2 t ht
      · rw [re_cpX (by omega)]; exact c3 t ht
      · rw [re_cpX (by omega)]; exact c4 n hn)
    obtain ⟨c1, c2, c3, c4⟩ := hb x (Nat.le_refl _) (by omega)
    refine ⟨nb', sy', dn', pc', vl', wo', pp', yo', pv', gv', ygu', re_s1u (by omega) i1, re_s1u (by omega) i2, re_s1u (by omega) i3, re_s1u (by omega) i4, re_s1U (by omega) i5, re_shu i6, re_shu i7, re_shu i8, re_shu i9, re_shu i10, re_shu i11, fun i => ?_, fun pos2 hp => ?_⟩
    · obtain ⟨j, hj⟩ := i13 i
      rw [hj]
      unfold re_cp
      by_cases q : 7 * x ≤ j ∧ j < 7 * x + 7
      · exact ⟨_, if_pos q⟩
      · exact ⟨j, if_neg q⟩
    rw [wY_commit_138]
    refine br_f (nI_ge (by omega) (by omega)) ?_
    refine yq_shift (by omega) c1 c2 c3 c4 ?_
    intro w ew
    rw [ew, nI_1]
    exact i12 pos2 hp
end
end
section
/-! a commit and a move keep the relation -/
section
variable {st nd bu nx wk kc1 kc0 kc2 kc3 kc4 kc5 kc6 kc7 gi ad : Nat} {xad xga xto yad yts yga : Int32} {kd sb tc sg wd fa ww so rg ce nm xdn xsn xpr xcl ct nb sy vl pv pc gv dn wo pp yo wh wt wi tr tg cd ws : Nat → Nat} {gs xcd xws xon xgu xlf xrt xlv ybs ycs ywd ycd yws ygu yone ytwo ylv : Nat → Int32} {xtr : Nat → Int64}
theorem pr_commit {w : Nat} (hM : re_M st nd kd fa sb tc sg wd ww so cd ws ad gs xcd xws ycd yws ybs ycs xad yad) (hw : wk = w + 1) (hO : re_O st wk nx (ct 1) nm nb sy) (hV : re_V nd wk kd fa sg wd sy gs xgu ygu xdn dn xsn vl wo gv) (hQ : re_Q wk ww sy xon xpr xcl pv pc pp yo) (hP : re_P wk so ws sy dn pp) (hC : re_C ww rg ce ct wh wt wi xtr) (hc : ct 1 + wk < 2 ^ 20) :
    ∃ (rg' ce' ct' wh' wt' wi' : Nat → Nat) (xtr' : Nat → Int64) (nb' sy' dn' pc' vl' wo' pp' yo' pv' gv' : Nat → Nat) (ygu' : Nat → Int32), re_O st w nx (ct' 1) (ar_u nm (sy 0) 0) nb' sy' ∧ re_V nd w kd fa sg wd sy' gs xgu ygu' xdn dn' xsn vl' wo' gv' ∧ re_Q w ww sy' xon xpr xcl pv' pc' pp' yo' ∧ re_P w so ws sy' dn' pp' ∧ re_C ww rg' ce' ct' wh' wt' wi' xtr' ∧ (∀ y, y < w → sy' y = sy (y + 1)) ∧ ct' 1 = ct 1 + 1 ∧
      (∀ posu : SX → Prop, posu (nI st, nI nd, nI bu, xad, nI nx, xga, xto, ar_N kd, ar_N sb, ar_N tc, ar_N sg, ar_N wd, ar_N fa, ar_N ww, gs, ar_O so, xcd, xws, ar_N rg', ar_N ce', ar_O (ar_u nm (sy 0) 0), xon, xgu, ar_N xdn, ar_N xsn, ar_N xpr, ar_N xcl, xtr', ar_N ct', xlf, xrt, xlv) → wpX_commit posu (nI st, nI nd, nI bu, xad, nI nx, xga, xto, ar_N kd, ar_N sb, ar_N tc, ar_N sg, ar_N wd, ar_N fa, ar_N ww, gs, ar_O so, xcd, xws, ar_N rg, ar_N ce, ar_O nm, xon, xgu, ar_N xdn, ar_N xsn, ar_N xpr, ar_N xcl, xtr, ar_N ct, xlf, xrt, xlv) (nI (sy 0))) ∧ (∀ pos2 : SY → Prop, pos2 (nI st, nI nd, nI bu, yad, nI w, nI nx, nI (ct' 1), nI (ct' 0), nI (ct' 2), nI (ct' 3), nI (ct' 4), nI (ct' 5), nI (ct' 6), nI (ct' 7), yts, nI gi, yga, ar_N ww, ar_N rg', ar_N ce', gs, ar_N kd, ar_N fa, ybs, ycs, ar_N sg, ywd, ar_O so, ycd, yws, ar_N nb', ar_N sy', ar_N vl', ar_N pv', ar_N pc', ygu', ar_N gv', ar_N dn', ar_N wo', ar_N pp', ar_N yo', ar_N wh', ar_N wt', ar_N wi', ar_N tr, ar_N tg, yone, ytwo, ylv) → wpY_commit pos2 (nI st, nI nd, nI bu, yad, nI wk, nI nx, nI (ct 1), nI (ct 0), nI (ct 2), nI (ct 3), nI (ct 4), nI (ct 5), nI (ct 6), nI (ct 7), yts, nI gi, yga, ar_N ww, ar_N rg, ar_N ce, gs, ar_N kd, ar_N fa, ybs, ycs, ar_N sg, ywd, ar_O so, ycd, yws, ar_N nb, ar_N sy, ar_N vl, ar_N pv, ar_N pc, ygu, ar_N gv, ar_N dn, ar_N wo, ar_N pp, ar_N yo, ar_N wh, ar_N wt, ar_N wi, ar_N tr, ar_N tg, yone, ytwo, ylv)) := by
  subst hw
  have hst := hM.1
  have hwk := re_wk hO
  have hs := hO.1 0 (by omega)
  obtain ⟨o1, o2⟩ := hO.2.2.1 0 (by omega)
  obtain ⟨rg', ce', ct1, wh', wt', wi', xtr', a1, a2, a3, a4, a5, a6, a7⟩ := pr_cloop (sy := sy) (nm := nm) (nb := nb) (pp := pp) (yo := yo) (xon := xon) (xpr := xpr) (pv := pv) (ww := ww) (xcl := xcl) (pc := pc) (ce := ce) (wk := w + 1) (bu := bu) (nx := nx) (xga := xga) (xto := xto) (xgu := xgu) (xdn := xdn) (xsn := xsn) (xlf := xlf) (xrt := xrt) (xlv := xlv) (yts := yts) (gi := gi) (yga := yga) (ywd := ywd) (vl := vl) (ygu := ygu) (gv := gv) (dn := dn) (wo := wo) (tr := tr) (tg := tg) (yone := yone) (ytwo := ytwo) (ylv := ylv) hM (by omega) o1 (by omega) (fun t ht => by
    have := hQ.1 0 (by omega) t ht
    rw [show 7 * 0 + t = t by omega] at this
    exact this) (fun h => hQ.2.1 0 (by omega) h) hC.2.1 6 0 rg ct wh wt wi xtr (by omega) hC.1 hC.2.2.2 (by have := hC.2.2.1; omega)
  have c1 : ct1 1 = ct 1 := a5 1 (by decide)
  obtain ⟨nb', sy', dn', pc', vl', wo', pp', yo', pv', gv', ygu', i1, i2, i3, i4, i5, i6, i7, i8, i9, i10, i11, i13, i12⟩ := yq_shiftAll (wk := w) (st := st) (nd := nd) (bu := bu) (yad := yad) (nx := nx) (kc0 := ct1 0) (kc1 := ct1 1 + 1) (kc2 := ct1 2) (kc3 := ct1 3) (kc4 := ct1 4) (kc5 := ct1 5) (kc6 := ct1 6) (kc7 := ct1 7) (yts := yts) (gi := gi) (yga := yga) (ww := ww) (rg := rg') (ce := ce') (gs := gs) (kd := kd) (fa := fa) (ybs := ybs) (ycs := ycs) (sg := sg) (ywd := ywd) (so := so) (ycd := ycd) (yws := yws) (wh := wh') (wt := wt') (wi := wi') (tr := tr) (tg := tg) (yone := yone) (ytwo := ytwo) (ylv := ylv) (by omega) w 0 nb sy dn pc vl wo pp yo pv gv ygu (by omega) (fun y h1 h2 => ⟨(hV.1 (y + 1) (by omega)).2.1, fun t ht => (hQ.1 (y + 1) (by omega) t ht).1, fun t ht => (hQ.1 (y + 1) (by omega) t ht).2.1, fun n hn => (hV.2.2.1 (y + 1) (by omega) n hn).1⟩)
  have g2 : ∀ y, y < w → sy' y = sy (y + 1) := fun y hy => i2.2 y (Nat.zero_le _) hy
  refine ⟨rg', ce', ar_u ct1 1 (ct1 1 + 1), wh', wt', wi', xtr', nb', sy', dn', pc', vl', wo', pp', yo', pv', gv', ygu', ?_, ?_, ?_, ?_, ?_, g2, by rw [ar_us, c1], fun posu hp => ⟨7, ?_⟩, fun pos2 hp => ⟨7, ?_⟩⟩
  · refine ⟨fun x hx => ?_, fun x hx => ?_, fun x hx => ?_, fun s => ⟨fun h5 hs' => ?_, fun h5 => ?_⟩, ?_⟩
    · rw [g2 x hx]; exact hO.1 _ (by omega)
    · rw [g2 x (by omega), g2 (x + 1) hx]; exact hO.2.1 _ (by omega)
    · have := re_lt hO (x := 0) (y := x + 1) (by omega) (by omega)
      rw [g2 x hx, ar_un (by omega), i1.2 x (Nat.zero_le _) hx, ar_us, c1]
      obtain ⟨q1, q2⟩ := hO.2.2.1 (x + 1) (by omega)
      exact ⟨q1, by omega⟩
    · by_cases e : s = sy 0
      · rw [e, ar_us]
      · rw [ar_un e]
        refine (hO.2.2.2.1 s).1 h5 (fun x hx q => ?_)
        cases x with
        | zero => exact e q.symm
        | succ x => exact hs' x (by omega) (by rw [g2 x (by omega)]; exact q)
    · rw [ar_un (by omega)]; exact (hO.2.2.2.1 s).2 h5
    · have := hO.2.2.2.2
      rw [ar_us, c1]; omega
  · refine ⟨fun x hx => ?_, fun x hx n hn hav => ?_, fun x hx n hn => ?_, fun x hx r hr hb => ?_⟩
    · rw [g2 x hx, i3.2 x (Nat.zero_le _) hx, i5.2 x (Nat.zero_le _) hx]
      exact hV.1 (x + 1) (by omega)
    · rw [g2 x hx, i3.2 x (Nat.zero_le _) hx] at hav
      rw [g2 x hx, i6.2 x (Nat.zero_le _) hx n (by omega)]
      exact hV.2.1 (x + 1) (by omega) n hn hav
    · rw [g2 x hx, i3.2 x (Nat.zero_le _) hx, i7.2 x (Nat.zero_le _) hx n hn]
      exact hV.2.2.1 (x + 1) (by omega) n hn
    · rw [i5.2 x (Nat.zero_le _) hx] at hb
      rw [g2 x hx, i3.2 x (Nat.zero_le _) hx, i11.2 x (Nat.zero_le _) hx r hr]
      obtain ⟨q1, q2, q3⟩ := hV.2.2.2 (x + 1) (by omega) r hr hb
      refine ⟨q1, q2, fun n hn hk hf => ?_⟩
      rw [i6.2 x (Nat.zero_le _) hx n (by omega)]
      exact q3 n hn hk hf
  · refine ⟨fun x hx t ht => ?_, fun x hx hpp => ?_, fun i => ⟨(hQ.2.2 i).1, by obtain ⟨j, hj⟩ := i13 i; rw [hj]; exact (hQ.2.2 j).2⟩⟩
    · rw [g2 x hx, i8.2 x (Nat.zero_le _) hx t ht, i9.2 x (Nat.zero_le _) hx t ht, i10.2 x (Nat.zero_le _) hx t ht]
      exact hQ.1 (x + 1) (by omega) t ht
    · rw [i8.2 x (Nat.zero_le _) hx 6 (by omega)] at hpp
      rw [g2 x hx, i4.2 x (Nat.zero_le _) hx]
      exact hQ.2.1 (x + 1) (by omega) hpp
  · intro x hx t ht
    rw [g2 x hx, i3.2 x (Nat.zero_le _) hx, i8.2 x (Nat.zero_le _) hx t ht]
    exact hP (x + 1) (by omega) t ht
  · refine ⟨a1, a2, ?_, a3⟩
    have := hC.2.2.1
    rw [ar_us, ar_un (by decide), c1]
    omega
  · refine a6 posu ?_
    unfold wX_commit_133
    refine ⟨vp_in_nI (by omega) (by omega), fun y ey z ez => ?_⟩
    rw [nI_clamp (by omega), show (-1 : Int32) = ar_i 0 from rfl, ar_uO] at ey
    rw [ar_Nap, nI_1, ar_uN] at ez
    rw [ey, ez]
    exact hp
  · refine a7 pos2 ?_
    unfold wY_commit_116
    intro y ey z ez
    rw [nI_1] at ey
    rw [show nI (w + 1) - 1 = nI w from nI_pred w] at ez
    rw [ey, ez]
    exact ⟨w + 1, i12 pos2 hp⟩
theorem pr_move {x : Nat} (hM : re_M st nd kd fa sb tc sg wd ww so cd ws ad gs xcd xws ycd yws ybs ycs xad yad) (hO : re_O st wk nx (ct 1) nm nb sy) (hV : re_V nd wk kd fa sg wd sy gs xgu ygu xdn dn xsn vl wo gv) (hQ : re_Q wk ww sy xon xpr xcl pv pc pp yo) (hP : re_P wk so ws sy dn pp) (hx : x < wk) (hd : dn x = 1) (hs : sy x + 1 < st) (hn : nm (sy x + 1) = 0) : re_O st wk nx (ct 1) (ar_u (ar_u nm (sy x + 1) (nm (sy x))) (sy x) 0) nb (ar_u sy x (sy x + 1)) ∧ re_V nd wk kd fa sg wd (ar_u sy x (sy x + 1)) gs (upd xgu (sy x + 1) (xgu (sy x))) ygu (ar_u xdn (sy x + 1) 0) (ar_u dn x 0) (re_cp (24 * (sy x + 1)) (24 * sy x) nd xsn) vl wo gv ∧ re_Q wk ww (ar_u sy x (sy x + 1)) (upd xon (sy x + 1) (xon (sy x))) (re_cp (7 * (sy x + 1)) (7 * sy x) 7 xpr) (ar_u xcl (sy x + 1) (xcl (sy x))) pv pc pp yo ∧ re_P wk so ws (ar_u sy x (sy x + 1)) (ar_u dn x 0) pp := by
  have hst := hM.1
  have free : ∀ y, y < wk → sy y ≠ sy x + 1 := by
    intro y hy e
    have := re_nmn hO hy
    rw [e] at this
    exact this hn
  have apart : ∀ y, y < wk → y ≠ x → sy y ≠ sy x := fun y hy e q => e (re_inj hO hy hx q)
  refine ⟨⟨fun y hy => ?_, fun y hy => ?_, fun y hy => ?_, fun s => ⟨fun h5 hs' => ?_, fun h5 => ?_⟩, hO.2.2.2.2⟩, ⟨fun y hy => ?_, fun y hy n hn' hav => ?_, fun y hy n hn' => ?_, fun y hy r hr hb => ?_⟩, ⟨fun y hy t ht => ?_, fun y hy hpp => ?_, fun i => ?_⟩, fun y hy t ht => ?_⟩
  · by_cases e : y = x
    · subst e; rw [ar_us]; omega
    · rw [ar_un e]; exact hO.1 y hy
  · have h1 := hO.2.1 y hy
    by_cases e : y = x
    · subst e; rw [ar_us, ar_un (by omega)]; omega
    · rw [ar_un e]
      by_cases e2 : y + 1 = x
      · subst e2
        rw [ar_us]
        have := free y (by omega)
        omega
      · rw [ar_un e2]; exact h1
  · by_cases e : y = x
    · subst e
      rw [ar_us, ar_un (by omega), ar_us]
      exact hO.2.2.1 y hy
    · rw [ar_un e, ar_un (apart y hy e), ar_un (free y hy)]
      exact hO.2.2.1 y hy
  · by_cases e : s = sy x
    · rw [e, ar_us]
    · rw [ar_un e]
      have ne : s ≠ sy x + 1 := by
        intro q
        exact hs' x hx (by rw [ar_us, q])
      rw [ar_un ne]
      refine (hO.2.2.2.1 s).1 h5 (fun y hy q => ?_)
      by_cases e2 : y = x
      · subst e2; exact e q.symm
      · exact hs' y hy (by rw [ar_un e2]; exact q)
  · rw [ar_un (by omega), ar_un (by omega)]; exact (hO.2.2.2.1 s).2 h5
  · obtain ⟨v1, v2, v3, v4⟩ := hV.1 y hy
    by_cases e : y = x
    · subst e
      rw [ar_us, ar_us, ar_us, pk_us]
      exact ⟨rfl, by omega, v3, v4⟩
    · rw [ar_un e, ar_un e, ar_un (free y hy), pk_un (free y hy)]
      exact ⟨v1, v2, v3, v4⟩
  · by_cases e : y = x
    · subst e
      rw [ar_us, ar_us] at hav
      rw [ar_us, re_cpI hn']
      refine hV.2.1 y hy n hn' ?_
      unfold re_av at hav ⊢
      omega
    · rw [ar_un e, ar_un e] at hav
      have := free y hy
      rw [ar_un e, re_cpX (by omega)]
      exact hV.2.1 y hy n hn' hav
  · obtain ⟨w1, w2⟩ := hV.2.2.1 y hy n hn'
    refine ⟨w1, fun h => ?_⟩
    rw [w2 h]
    by_cases e : y = x
    · subst e
      rw [ar_us, ar_us]
      unfold re_av
      omega
    · rw [ar_un e, ar_un e]
  · obtain ⟨g1, g2, g3⟩ := hV.2.2.2 y hy r hr hb
    refine ⟨g1, ?_, g3⟩
    by_cases e : y = x
    · subst e; rw [ar_us]; omega
    · rw [ar_un e, ar_un e]; exact g2
  · obtain ⟨q1, q2, q3, q4⟩ := hQ.1 y hy t ht
    by_cases e : y = x
    · subst e
      rw [ar_us, pk_us, re_cpI ht]
      exact ⟨q1, q2, q3, q4⟩
    · have := free y hy
      rw [ar_un e, pk_un this, re_cpX (by omega)]
      exact ⟨q1, q2, q3, q4⟩
  · by_cases e : y = x
    · subst e
      rw [ar_us, ar_us]
      exact hQ.2.1 y hy hpp
    · rw [ar_un e, ar_un (free y hy)]
      exact hQ.2.1 y hy hpp
  · refine ⟨?_, (hQ.2.2 i).2⟩
    unfold ar_u
    by_cases e : i = sy x + 1
    · rw [if_pos e]; exact (hQ.2.2 _).1
    · rw [if_neg e]; exact (hQ.2.2 _).1
  · rw [hP y hy t ht]
    by_cases e : y = x
    · subst e
      rw [ar_us, ar_us]
      unfold re_av
      constructor
      · rintro ⟨q1, q2⟩; exact ⟨q1, by omega⟩
      · rintro ⟨q1, q2⟩; exact ⟨q1, by omega⟩
    · rw [ar_un e, ar_un e]
end
end
section
/-! all slots move on, the oldest first -/
section
variable {st nd bu nx wk kc1 kc0 kc2 kc3 kc4 kc5 kc6 kc7 gi ad : Nat} {xad xga xto yad yts yga : Int32} {kd sb tc sg wd fa ww so rg ce nm xdn xsn xpr xcl ct nb sy vl pv pc gv dn wo pp yo wh wt wi tr tg cd ws : Nat → Nat} {gs xcd xws xon xgu xlf xrt xlv ybs ycs ywd ycd yws ygu yone ytwo ylv : Nat → Int32} {xtr : Nat → Int64}
theorem pr_loop2 (hM : re_M st nd kd fa sb tc sg wd ww so cd ws ad gs xcd xws ycd yws ybs ycs xad yad) : ∀ (k x f : Nat) (wk : Nat) (nm ct xdn xsn xpr xcl vl pv pc gv dn wo pp yo nb sy rg ce wh wt wi : Nat → Nat) (xon xgu ygu : Nat → Int32) (xtr : Nat → Int64), re_O st wk nx (ct 1) nm nb sy → re_V nd wk kd fa sg wd sy gs xgu ygu xdn dn xsn vl wo gv → re_Q wk ww sy xon xpr xcl pv pc pp yo → re_P wk so ws sy dn pp → re_C ww rg ce ct wh wt wi xtr → ct 1 + wk < 2 ^ 20 → x ≤ wk → k ≤ st → (∀ x', x' < x → k ≤ sy x') → (∀ x', x ≤ x' → x' < wk → sy x' < k) → wk - x < f →
    ∃ (wk' : Nat) (nm' ct' xdn' xsn' xpr' xcl' vl' pv' pc' gv' dn' wo' pp' yo' nb' sy' rg' ce' wh' wt' wi' : Nat → Nat) (xon' xgu' ygu' : Nat → Int32) (xtr' : Nat → Int64), wk' ≤ wk ∧ ct' 1 + wk' = ct 1 + wk ∧ re_O st wk' nx (ct' 1) nm' nb' sy' ∧ re_V nd wk' kd fa sg wd sy' gs xgu' ygu' xdn' dn' xsn' vl' wo' gv' ∧ re_Q wk' ww sy' xon' xpr' xcl' pv' pc' pp' yo' ∧ re_P wk' so ws sy' dn' pp' ∧ re_C ww rg' ce' ct' wh' wt' wi' xtr' ∧ (0 < x → wk' = wk ∧ sy' 0 = sy 0) ∧ (x = 0 → 0 < wk → dn 0 = 1 → wk' < wk ∨ (wk' = wk ∧ sy' 0 = sy 0 + 1)) ∧
      (∀ posu : SX → Prop, posu (nI st, nI nd, nI bu, xad, nI nx, xga, xto, ar_N kd, ar_N sb, ar_N tc, ar_N sg, ar_N wd, ar_N fa, ar_N ww, gs, ar_O so, xcd, xws, ar_N rg', ar_N ce', ar_O nm', xon', xgu', ar_N xdn', ar_N xsn', ar_N xpr', ar_N xcl', xtr', ar_N ct', xlf, xrt, xlv) → wX_cycle_100 posu (k + 1) (ar_i k) (nI st) (nI nd) (nI bu) xad (nI nx) xga xto (ar_N kd) (ar_N sb) (ar_N tc) (ar_N sg) (ar_N wd) (ar_N fa) (ar_N ww) gs (ar_O so) xcd xws (ar_N rg) (ar_N ce) (ar_O nm) xon xgu (ar_N xdn) (ar_N xsn) (ar_N xpr) (ar_N xcl) xtr (ar_N ct) xlf xrt xlv) ∧ (∀ pos2 : SY → Prop, pos2 (nI st, nI nd, nI bu, yad, nI wk', nI nx, nI (ct' 1), nI (ct' 0), nI (ct' 2), nI (ct' 3), nI (ct' 4), nI (ct' 5), nI (ct' 6), nI (ct' 7), yts, nI gi, yga, ar_N ww, ar_N rg', ar_N ce', gs, ar_N kd, ar_N fa, ybs, ycs, ar_N sg, ywd, ar_O so, ycd, yws, ar_N nb', ar_N sy', ar_N vl', ar_N pv', ar_N pc', ygu', ar_N gv', ar_N dn', ar_N wo', ar_N pp', ar_N yo', ar_N wh', ar_N wt', ar_N wi', ar_N tr, ar_N tg, yone, ytwo, ylv) → wY_cycle_97 pos2 f (nI x) (nI st) (nI nd) (nI bu) yad (nI wk) (nI nx) (nI (ct 1)) (nI (ct 0)) (nI (ct 2)) (nI (ct 3)) (nI (ct 4)) (nI (ct 5)) (nI (ct 6)) (nI (ct 7)) yts (nI gi) yga (ar_N ww) (ar_N rg) (ar_N ce) gs (ar_N kd) (ar_N fa) ybs ycs (ar_N sg) ywd (ar_O so) ycd yws (ar_N nb) (ar_N sy) (ar_N vl) (ar_N pv) (ar_N pc) ygu (ar_N gv) (ar_N dn) (ar_N wo) (ar_N pp) (ar_N yo) (ar_N wh) (ar_N wt) (ar_N wi) (ar_N tr) (ar_N tg) yone ytwo ylv) := by
  have hst := hM.1
  intro k
  induction k with
  | zero =>
    intro x f wk nm ct xdn xsn xpr xcl vl pv pc gv dn wo pp yo nb sy rg ce wh wt wi xon xgu ygu xtr hO hV hQ hP hC hc hx hk h1 h2 hf
    have hwk := re_wk hO
    have e : x = wk := by
      rcases Nat.lt_or_ge x wk with q | q
      · exact absurd (h2 x (Nat.le_refl _) q) (by omega)
      · omega
    subst e
    refine ⟨x, nm, ct, xdn, xsn, xpr, xcl, vl, pv, pc, gv, dn, wo, pp, yo, nb, sy, rg, ce, wh, wt, wi, xon, xgu, ygu, xtr, Nat.le_refl _, rfl, hO, hV, hQ, hP, hC, fun _ => ⟨rfl, rfl⟩, fun q1 q2 => by omega, fun posu hp => ?_, fun pos2 hp => ?_⟩
    · rw [wX_cycle_100]
      exact br_t (by decide) hp
    · cases f with
      | zero => omega
      | succ f =>
        rw [wY_cycle_97]
        exact br_t (nI_le (Nat.le_refl _) (by omega)) hp
  | succ k ih =>
    intro x f wk nm ct xdn xsn xpr xcl vl pv pc gv dn wo pp yo nb sy rg ce wh wt wi xon xgu ygu xtr hO hV hQ hP hC hc hx hk h1 h2 hf
    have hwk := re_wk hO
    have hnb := fun s => re_nmb hO (by omega) s
    have b5 : vp_in (nI k) 5 := vp_in_nI (by omega) (by omega)
    by_cases here : x < wk ∧ sy x = k
    · obtain ⟨z1, z2⟩ := here
      cases f with
      | zero => omega
      | succ f =>
        obtain ⟨v1, v2, v3, v4⟩ := hV.1 x z1
        have hnn := re_nmn hO z1
        have x5 : vp_in (nI x) 5 := vp_in_nI (by omega) (by omega)
        rw [z2] at hnn v1
        have up : ∀ x', x' < x + 1 → k ≤ sy x' := by
          intro x' hx'
          rcases Nat.lt_or_ge x' x with q | q
          · have := h1 x' q; omega
          · have e : x' = x := by omega
            subst e; omega
        have down : ∀ x', x + 1 ≤ x' → x' < wk → sy x' < k := by
          intro x' hx' hw
          have := re_lt hO (x := x) (y := x') (by omega) hw
          omega
        -- nothing happens to it
        have skip : (x = 0 → dn 0 ≠ 1) → (∀ (posu : SX → Prop) (g : Nat), wX_cycle_100 posu g (ar_i k) (nI st) (nI nd) (nI bu) xad (nI nx) xga xto (ar_N kd) (ar_N sb) (ar_N tc) (ar_N sg) (ar_N wd) (ar_N fa) (ar_N ww) gs (ar_O so) xcd xws (ar_N rg) (ar_N ce) (ar_O nm) xon xgu (ar_N xdn) (ar_N xsn) (ar_N xpr) (ar_N xcl) xtr (ar_N ct) xlf xrt xlv → wX_cycle_100 posu (g + 1) (nI k) (nI st) (nI nd) (nI bu) xad (nI nx) xga xto (ar_N kd) (ar_N sb) (ar_N tc) (ar_N sg) (ar_N wd) (ar_N fa) (ar_N ww) gs (ar_O so) xcd xws (ar_N rg) (ar_N ce) (ar_O nm) xon xgu (ar_N xdn) (ar_N xsn) (ar_N xpr) (ar_N xcl) xtr (ar_N ct) xlf xrt xlv) → (∀ (pos2 : SY → Prop), wY_cycle_97 pos2 f (nI (x + 1)) (nI st) (nI nd) (nI bu) yad (nI wk) (nI nx) (nI (ct 1)) (nI (ct 0)) (nI (ct 2)) (nI (ct 3)) (nI (ct 4)) (nI (ct 5)) (nI (ct 6)) (nI (ct 7)) yts (nI gi) yga (ar_N ww) (ar_N rg) (ar_N ce) gs (ar_N kd) (ar_N fa) ybs ycs (ar_N sg) ywd (ar_O so) ycd yws (ar_N nb) (ar_N sy) (ar_N vl) (ar_N pv) (ar_N pc) ygu (ar_N gv) (ar_N dn) (ar_N wo) (ar_N pp) (ar_N yo) (ar_N wh) (ar_N wt) (ar_N wi) (ar_N tr) (ar_N tg) yone ytwo ylv → wY_cycle_97 pos2 (f + 1) (nI x) (nI st) (nI nd) (nI bu) yad (nI wk) (nI nx) (nI (ct 1)) (nI (ct 0)) (nI (ct 2)) (nI (ct 3)) (nI (ct 4)) (nI (ct 5)) (nI (ct 6)) (nI (ct 7)) yts (nI gi) yga (ar_N ww) (ar_N rg) (ar_N ce) gs (ar_N kd) (ar_N fa) ybs ycs (ar_N sg) ywd (ar_O so) ycd yws (ar_N nb) (ar_N sy) (ar_N vl) (ar_N pv) (ar_N pc) ygu (ar_N gv) (ar_N dn) (ar_N wo) (ar_N pp) (ar_N yo) (ar_N wh) (ar_N wt) (ar_N wi) (ar_N tr) (ar_N tg) yone ytwo ylv) →
            ∃ (wk' : Nat) (nm' ct' xdn' xsn' xpr' xcl' vl' pv' pc' gv' dn' wo' pp' yo' nb' sy' rg' ce' wh' wt' wi' : Nat → Nat) (xon' xgu' ygu' : Nat → Int32) (xtr' : Nat → Int64), wk' ≤ wk ∧ ct' 1 + wk' = ct 1 + wk ∧ re_O st wk' nx (ct' 1) nm' nb' sy' ∧ re_V nd wk' kd fa sg wd sy' gs xgu' ygu' xdn' dn' xsn' vl' wo' gv' ∧ re_Q wk' ww sy' xon' xpr' xcl' pv' pc' pp' yo' ∧ re_P wk' so ws sy' dn' pp' ∧ re_C ww rg' ce' ct' wh' wt' wi' xtr' ∧ (0 < x → wk' = wk ∧ sy' 0 = sy 0) ∧ (x = 0 → 0 < wk → dn 0 = 1 → wk' < wk ∨ (wk' = wk ∧ sy' 0 = sy 0 + 1)) ∧
            (∀ posu : SX → Prop, posu (nI st, nI nd, nI bu, xad, nI nx, xga, xto, ar_N kd, ar_N sb, ar_N tc, ar_N sg, ar_N wd, ar_N fa, ar_N ww, gs, ar_O so, xcd, xws, ar_N rg', ar_N ce', ar_O nm', xon', xgu', ar_N xdn', ar_N xsn', ar_N xpr', ar_N xcl', xtr', ar_N ct', xlf, xrt, xlv) → wX_cycle_100 posu (k + 1 + 1) (ar_i (k + 1)) (nI st) (nI nd) (nI bu) xad (nI nx) xga xto (ar_N kd) (ar_N sb) (ar_N tc) (ar_N sg) (ar_N wd) (ar_N fa) (ar_N ww) gs (ar_O so) xcd xws (ar_N rg) (ar_N ce) (ar_O nm) xon xgu (ar_N xdn) (ar_N xsn) (ar_N xpr) (ar_N xcl) xtr (ar_N ct) xlf xrt xlv) ∧ (∀ pos2 : SY → Prop, pos2 (nI st, nI nd, nI bu, yad, nI wk', nI nx, nI (ct' 1), nI (ct' 0), nI (ct' 2), nI (ct' 3), nI (ct' 4), nI (ct' 5), nI (ct' 6), nI (ct' 7), yts, nI gi, yga, ar_N ww, ar_N rg', ar_N ce', gs, ar_N kd, ar_N fa, ybs, ycs, ar_N sg, ywd, ar_O so, ycd, yws, ar_N nb', ar_N sy', ar_N vl', ar_N pv', ar_N pc', ygu', ar_N gv', ar_N dn', ar_N wo', ar_N pp', ar_N yo', ar_N wh', ar_N wt', ar_N wi', ar_N tr, ar_N tg, yone, ytwo, ylv) → wY_cycle_97 pos2 (f + 1) (nI x) (nI st) (nI nd) (nI bu) yad (nI wk) (nI nx) (nI (ct 1)) (nI (ct 0)) (nI (ct 2)) (nI (ct 3)) (nI (ct 4)) (nI (ct 5)) (nI (ct 6)) (nI (ct 7)) yts (nI gi) yga (ar_N ww) (ar_N rg) (ar_N ce) gs (ar_N kd) (ar_N fa) ybs ycs (ar_N sg) ywd (ar_O so) ycd yws (ar_N nb) (ar_N sy) (ar_N vl) (ar_N pv) (ar_N pc) ygu (ar_N gv) (ar_N dn) (ar_N wo) (ar_N pp) (ar_N yo) (ar_N wh) (ar_N wt) (ar_N wi) (ar_N tr) (ar_N tg) yone ytwo ylv) := by
          intro s0 sX sY
          obtain ⟨wk', nm', ct', xdn', xsn', xpr', xcl', vl', pv', pc', gv', dn', wo', pp', yo', nb', sy', rg', ce', wh', wt', wi', xon', xgu', ygu', xtr', i1, i2, i3, i4, i5, i6, i7, i8, i9, i10, i11⟩ := ih (x + 1) f wk nm ct xdn xsn xpr xcl vl pv pc gv dn wo pp yo nb sy rg ce wh wt wi xon xgu ygu xtr hO hV hQ hP hC hc (by omega) (by omega) up down (by omega)
          exact ⟨wk', nm', ct', xdn', xsn', xpr', xcl', vl', pv', pc', gv', dn', wo', pp', yo', nb', sy', rg', ce', wh', wt', wi', xon', xgu', ygu', xtr', i1, i2, i3, i4, i5, i6, i7, fun _ => i8 (by omega), fun q1 q2 q3 => absurd q3 (s0 q1), fun posu hp => sX posu (k + 1) (i10 posu hp), fun pos2 hp => sY pos2 (i11 pos2 hp)⟩
        by_cases dd : dn x = 0
        · refine skip (fun q => by rw [← q]; omega) (fun posu g hp => ?_) (fun pos2 hp => ?_)
          · rw [wX_cycle_100]
            refine br_f (nI_pos (by omega)) ⟨b5, ?_⟩
            rw [nI_clamp (by omega), ar_Oap]
            refine br_f (by rw [show (0 : Int32) = nI 0 from rfl, ar_ilt (hnb k) (by omega)]; omega) ⟨b5, br_t (by rw [ar_Nap, v1, dd]; rfl) (fun y ey => ?_)⟩
            rw [show y = ar_i k from ey.trans (ar_ad1 _)]
            exact hp
          · rw [wY_cycle_97]
            refine br_f (nI_ge (by omega) (by omega)) ⟨x5, ?_⟩
            rw [nI_clamp (by omega)]
            refine br_t (by rw [ar_Nap, dd]; rfl) ?_
            unfold wY_cycle_136
            refine ⟨x5, ?_⟩
            rw [nI_clamp (by omega)]
            refine br_t (by rw [ar_Nap, dd]; rfl) (fun y ey => ?_)
            rw [ey, nI_1]
            exact hp
        · have d1 : dn x = 1 := by omega
          by_cases last : k + 1 = st
          · -- it commits
            have x0 : x = 0 := by
              rcases Nat.eq_zero_or_pos x with q | q
              · exact q
              · have := h1 0 q
                have := hO.1 0 (by omega)
                omega
            subst x0
            obtain ⟨w, hw⟩ : ∃ w, wk = w + 1 := ⟨wk - 1, by omega⟩
            obtain ⟨rg1, ce1, ct1, wh1, wt1, wi1, xtr1, nb1, sy1, dn1, pc1, vl1, wo1, pp1, yo1, pv1, gv1, ygu1, r1, r2, r3, r4, r5, r6, r7, r8, r9⟩ := pr_commit (w := w) (nx := nx) (gi := gi) (yts := yts) (tr := tr) (tg := tg) (bu := bu) (xga := xga) (xto := xto) (xlf := xlf) (xrt := xrt) (xlv := xlv) (yga := yga) (ywd := ywd) (yone := yone) (ytwo := ytwo) (ylv := ylv) hM hw hO hV hQ hP hC hc
            obtain ⟨wk', nm', ct', xdn', xsn', xpr', xcl', vl', pv', pc', gv', dn', wo', pp', yo', nb', sy', rg', ce', wh', wt', wi', xon', xgu', ygu', xtr', i1, i2, i3, i4, i5, i6, i7, i8, i9, i10, i11⟩ := ih 0 f w (ar_u nm (sy 0) 0) ct1 xdn xsn xpr xcl vl1 pv1 pc1 gv1 dn1 wo1 pp1 yo1 nb1 sy1 rg1 ce1 wh1 wt1 wi1 xon xgu ygu1 xtr1 r1 r2 r3 r4 r5 (by omega) (by omega) (by omega) (fun x' hx' => absurd hx' (by omega)) (fun x' hx' hw' => by
              rw [r6 x' hw']
              have := re_lt hO (x := 0) (y := x' + 1) (by omega) (by omega)
              omega) (by omega)
            refine ⟨wk', nm', ct', xdn', xsn', xpr', xcl', vl', pv', pc', gv', dn', wo', pp', yo', nb', sy', rg', ce', wh', wt', wi', xon', xgu', ygu', xtr', by omega, by omega, i3, i4, i5, i6, i7, fun q => absurd q (by omega), fun _ _ _ => Or.inl (by omega), fun posu hp => ?_, fun pos2 hp => ?_⟩
            · rw [wX_cycle_100]
              refine br_f (nI_pos (by omega)) ⟨b5, ?_⟩
              rw [ar_is, nI_clamp (by omega), ar_Oap]
              refine br_f (by rw [show (0 : Int32) = nI 0 from rfl, ar_ilt (hnb k) (by omega)]; omega) ⟨b5, br_f (by rw [ar_Nap, v1, d1]; decide) ?_⟩
              refine br_t (by rw [← last]; exact (nI_pred k).symm) ?_
              rw [← z2]
              refine r8 _ ?_
              intro y ey
              rw [show y = ar_i (sy 0) from ey.trans (ar_ad1 _), z2]
              rw [z2] at i10
              exact i10 posu hp
            · rw [wY_cycle_97]
              refine br_f (nI_ge (by omega) (by omega)) ⟨x5, ?_⟩
              rw [nI_clamp (by omega)]
              refine br_f (by rw [ar_Nap, d1]; decide) ⟨x5, br_t (by rw [ar_Nap, z2, ← last]; exact (nI_pred k).symm) ?_⟩
              refine r9 _ ?_
              exact i11 pos2 hp
          · have nst : ¬ nI k = nI st - 1 := by
              intro q
              rw [show nI st - 1 = ar_i st from ar_sub1 st, ar_nei (by omega) (by omega)] at q
              omega
            by_cases free : nm (k + 1) = 0
            · -- it moves on
              obtain ⟨r1, r2, r3, r4⟩ := pr_move (x := x) hM hO hV hQ hP z1 d1 (by omega) (by rw [z2]; exact free)
              obtain ⟨wk', nm', ct', xdn', xsn', xpr', xcl', vl', pv', pc', gv', dn', wo', pp', yo', nb', sy', rg', ce', wh', wt', wi', xon', xgu', ygu', xtr', i1, i2, i3, i4, i5, i6, i7, i8, i9, i10, i11⟩ := ih (x + 1) f wk _ ct _ _ _ _ vl pv pc gv _ wo pp yo nb _ rg ce wh wt wi _ _ ygu xtr r1 r2 r3 r4 hC hc (by omega) (by omega) (fun x' hx' => by
                by_cases e : x' = x
                · subst e; rw [ar_us]; omega
                · rw [ar_un e]; exact up x' hx') (fun x' hx' hw' => by
                rw [ar_un (by omega)]; exact down x' hx' hw') (by omega)
              obtain ⟨j1, j2⟩ := i8 (by omega)
              refine ⟨wk', nm', ct', xdn', xsn', xpr', xcl', vl', pv', pc', gv', dn', wo', pp', yo', nb', sy', rg', ce', wh', wt', wi', xon', xgu', ygu', xtr', i1, i2, i3, i4, i5, i6, i7, fun q => ⟨j1, by rw [j2, ar_un (by omega)]⟩, fun q _ _ => Or.inr ⟨j1, by rw [j2, q, ar_us]⟩, fun posu hp => ?_, fun pos2 hp => ?_⟩
              · rw [wX_cycle_100]
                refine br_f (nI_pos (by omega)) ⟨b5, ?_⟩
                rw [ar_is, nI_clamp (by omega), ar_Oap]
                refine br_f (by rw [show (0 : Int32) = nI 0 from rfl, ar_ilt (hnb k) (by omega)]; omega) ⟨b5, br_f (by rw [ar_Nap, v1, d1]; decide) (br_f nst ?_)⟩
                rw [nI_1]
                refine ⟨vp_in_nI (by omega) (by omega), ?_⟩
                rw [nI_clamp (by omega), ar_Oap]
                refine br_f (by rw [free]; decide) ?_
                rw [← z2]
                refine xq_move hst.2.2 (by omega) (hQ.2.2 _).1 ?_
                intro y ey
                rw [show y = ar_i (sy x) from ey.trans (ar_ad1 _)]
                have := i10 posu hp
                rw [z2]
                rw [z2] at this
                exact this
              · rw [wY_cycle_97]
                refine br_f (nI_ge (by omega) (by omega)) ⟨x5, ?_⟩
                rw [nI_clamp (by omega)]
                refine br_f (by rw [ar_Nap, d1]; decide) ⟨x5, br_f (by rw [ar_Nap, z2]; exact nst) ?_⟩
                have go : wY_cycle_168 pos2 (wY_cycle_97 pos2 f) (nI x) (nI st) (nI nd) (nI bu) yad (nI wk) (nI nx) (nI (ct 1)) (nI (ct 0)) (nI (ct 2)) (nI (ct 3)) (nI (ct 4)) (nI (ct 5)) (nI (ct 6)) (nI (ct 7)) yts (nI gi) yga (ar_N ww) (ar_N rg) (ar_N ce) gs (ar_N kd) (ar_N fa) ybs ycs (ar_N sg) ywd (ar_O so) ycd yws (ar_N nb) (ar_N sy) (ar_N vl) (ar_N pv) (ar_N pc) ygu (ar_N gv) (ar_N dn) (ar_N wo) (ar_N pp) (ar_N yo) (ar_N wh) (ar_N wt) (ar_N wi) (ar_N tr) (ar_N tg) yone ytwo ylv := by
                  unfold wY_cycle_168
                  rw [nI_clamp (by omega)]
                  refine ⟨x5, x5, fun y ey => ⟨x5, fun u eu t et => ?_⟩⟩
                  rw [ar_Nap, nI_1, ar_uN] at ey
                  rw [show (0 : Int32) = nI 0 from rfl, ar_bo0, ar_uN] at eu
                  rw [ey, eu, et, nI_1]
                  exact i11 pos2 hp
                unfold wY_cycle_136
                refine ⟨x5, ?_⟩
                rw [nI_clamp (by omega)]
                refine br_f (by rw [ar_Nap, d1]; decide) ?_
                refine pk_eq x 0 (fun _ => go) (fun x0 => ?_)
                have q1 := h1 (x - 1) (by omega)
                have q2 : sy (x - 1) ≠ k + 1 := by
                  intro q
                  have := re_nmn hO (x := x - 1) (by omega)
                  rw [q] at this
                  exact this free
                have q3 := hO.1 (x - 1) (by omega)
                rw [show nI x - 1 = nI (x - 1) by rw [show x = x - 1 + 1 by omega]; exact nI_pred _]
                refine ⟨vp_in_nI (by omega) (by omega), x5, ?_⟩
                rw [nI_clamp (by omega), ar_Nap, ar_Nap, nI_1]
                exact br_f (nI_ge (by omega) (by omega)) go
            · -- the next slot is taken
              obtain ⟨y, hy, ey⟩ := (re_who hO (s := k + 1) (by omega)).resolve_left free
              have yx : y + 1 = x := by
                rcases Nat.lt_trichotomy y x with q | q | q
                · rcases Nat.lt_or_ge (y + 1) x with q2 | q2
                  · have a1 := re_lt hO q2 z1
                    have a2 := hO.2.1 y (by omega)
                    omega
                  · omega
                · subst q; omega
                · have := re_lt hO q hy; omega
              refine skip (fun q => by omega) (fun posu g hp => ?_) (fun pos2 hp => ?_)
              · rw [wX_cycle_100]
                refine br_f (nI_pos (by omega)) ⟨b5, ?_⟩
                rw [nI_clamp (by omega), ar_Oap]
                refine br_f (by rw [show (0 : Int32) = nI 0 from rfl, ar_ilt (hnb k) (by omega)]; omega) ⟨b5, br_f (by rw [ar_Nap, v1, d1]; decide) (br_f nst ?_)⟩
                rw [nI_1]
                refine ⟨vp_in_nI (by omega) (by omega), ?_⟩
                rw [nI_clamp (by omega), ar_Oap]
                refine br_t (by rw [show (0 : Int32) = nI 0 from rfl, ar_lei (hnb _) (by omega)]; omega) (fun u eu => ?_)
                rw [show u = ar_i k from eu.trans (ar_ad1 _)]
                exact hp
              · rw [wY_cycle_97]
                refine br_f (nI_ge (by omega) (by omega)) ⟨x5, ?_⟩
                rw [nI_clamp (by omega)]
                refine br_f (by rw [ar_Nap, d1]; decide) ⟨x5, br_f (by rw [ar_Nap, z2]; exact nst) ?_⟩
                unfold wY_cycle_136
                refine ⟨x5, ?_⟩
                rw [nI_clamp (by omega)]
                refine br_f (by rw [ar_Nap, d1]; decide) ?_
                refine br_f (by rw [show (0 : Int32) = nI 0 from rfl, nI_eq (by omega) (by omega)]; omega) ?_
                rw [show nI x - 1 = nI y by rw [← yx]; exact nI_pred _]
                refine ⟨vp_in_nI (by omega) (by omega), x5, ?_⟩
                rw [nI_clamp (by omega), ar_Nap, ar_Nap, nI_1]
                refine br_t (nI_le (by omega) (by omega)) (fun u eu => ?_)
                rw [eu, nI_1]
                exact hp
    · have hz : nm k = 0 := by
        refine (hO.2.2.2.1 k).1 (by omega) (fun x' hx' q => ?_)
        rcases Nat.lt_trichotomy x' x with c | c | c
        · have := h1 x' c; omega
        · subst c; exact here ⟨hx', q⟩
        · have := re_lt hO (x := x) (y := x') c hx'
          have := h2 x (Nat.le_refl _) (by omega)
          omega
      have IH := ih x f wk nm ct xdn xsn xpr xcl vl pv pc gv dn wo pp yo nb sy rg ce wh wt wi xon xgu ygu xtr hO hV hQ hP hC hc hx (by omega) (fun x' hx' => by have := h1 x' hx'; omega) (fun x' hx' hw => ?_) hf
      · obtain ⟨wk', nm', ct', xdn', xsn', xpr', xcl', vl', pv', pc', gv', dn', wo', pp', yo', nb', sy', rg', ce', wh', wt', wi', xon', xgu', ygu', xtr', i1, i2, i3, i4, i5, i6, i7, i8, i9, i10, i11⟩ := IH
        refine ⟨wk', nm', ct', xdn', xsn', xpr', xcl', vl', pv', pc', gv', dn', wo', pp', yo', nb', sy', rg', ce', wh', wt', wi', xon', xgu', ygu', xtr', i1, i2, i3, i4, i5, i6, i7, i8, i9, fun posu hp => ?_, i11⟩
        rw [wX_cycle_100]
        refine br_f (nI_pos (by omega)) ⟨b5, ?_⟩
        rw [ar_is, nI_clamp (by omega), ar_Oap]
        refine br_t (by rw [hz]; decide) (fun y ey => ?_)
        rw [show y = ar_i k from ey.trans (ar_ad1 _)]
        exact i10 posu hp
      · have q1 := h2 x' hx' hw
        rcases Nat.lt_or_ge x x' with c | c
        · have := re_lt hO (x := x) (y := x') c hw
          have := h2 x (Nat.le_refl _) (by omega)
          omega
        · have e : x' = x := by omega
          subst e
          have : sy x' ≠ k := fun q => here ⟨hw, q⟩
          omega
end
end
section
/-! one comes in; a cycle -/
def re_zr (b n : Nat) (f : Nat → Nat) : Nat → Nat := fun i => if b ≤ i ∧ i < b + n then 0 else f i
theorem re_zr0 (b : Nat) (f : Nat → Nat) : re_zr b 0 f = f := by
  funext i
  unfold re_zr
  rw [if_neg (by omega)]
theorem re_zrS {b n : Nat} {f : Nat → Nat} : ar_u (re_zr b n f) (b + n) 0 = re_zr b (n + 1) f := by
  funext i
  unfold re_zr ar_u
  by_cases z : i = b + n
  · subst z
    rw [if_pos rfl, if_pos (by omega)]
  · rw [if_neg z]
    dsimp only
    by_cases z2 : b ≤ i ∧ i < b + n
    · rw [if_pos z2, if_pos (by omega)]
    · rw [if_neg z2, if_neg (by omega)]
theorem re_zrI {b n m : Nat} {f : Nat → Nat} (h : m < n) : re_zr b n f (b + m) = 0 := by
  unfold re_zr
  rw [if_pos (by omega)]
theorem re_zrX {b n i : Nat} {f : Nat → Nat} (h : i < b ∨ b + n ≤ i) : re_zr b n f i = f i := by
  unfold re_zr
  rw [if_neg (by omega)]
section
variable {st nd bu nx wk kc1 kc0 kc2 kc3 kc4 kc5 kc6 kc7 gi ad : Nat} {xad xga xto yad yts yga : Int32} {kd sb tc sg wd fa ww so rg ce nm xdn xsn xpr xcl ct nb sy vl pv pc gv dn wo pp yo wh wt wi tr tg cd ws : Nat → Nat} {gs xcd xws xon xgu xlf xrt xlv ybs ycs ywd ycd yws ygu yone ytwo ylv : Nat → Int32} {xtr : Nat → Int64}
variable {posu : SX → Prop} {pos2 : SY → Prop}
theorem xq_comeIn (hp : posu (nI st, nI nd, nI bu, xad, nI (nx + 1), xga, xto, ar_N kd, ar_N sb, ar_N tc, ar_N sg, ar_N wd, ar_N fa, ar_N ww, gs, ar_O so, xcd, xws, ar_N rg, ar_N ce, ar_O (ar_u nm 0 (nx + 1)), upd xon 0 0, upd xgu 0 0, ar_N (ar_u xdn 0 0), ar_N xsn, ar_N xpr, ar_N xcl, xtr, ar_N ct, xlf, xrt, xlv)) : wpX_comeIn posu (nI st, nI nd, nI bu, xad, nI nx, xga, xto, ar_N kd, ar_N sb, ar_N tc, ar_N sg, ar_N wd, ar_N fa, ar_N ww, gs, ar_O so, xcd, xws, ar_N rg, ar_N ce, ar_O nm, xon, xgu, ar_N xdn, ar_N xsn, ar_N xpr, ar_N xcl, xtr, ar_N ct, xlf, xrt, xlv) := by
  unfold wpX_comeIn
  intro y ey z ez
  rw [nI_1] at ey
  rw [ar_uOn] at ez
  rw [ey, ez]
  unfold wpX_fresh
  have b : vp_in (0 : Int32) 5 := vp_in_nI (n := 0) (by omega) (by omega)
  refine ⟨b, fun v1 e1 => ⟨b, fun v2 e2 => ⟨b, fun v3 e3 => ?_⟩⟩⟩
  rw [show (0 : Int32).toNatClampNeg = 0 from rfl] at e1 e2 e3
  rw [show (0 : Int32) = nI 0 from rfl, ar_bo0, ar_uN] at e1
  rw [e1, e2, e3]
  exact hp
theorem yq_come78 {x : Nat} (hp : pos2 (nI st, nI nd, nI bu, yad, nI wk, nI nx, nI kc1, nI kc0, nI kc2, nI kc3, nI kc4, nI kc5, nI kc6, nI kc7, yts, nI gi, yga, ar_N ww, ar_N rg, ar_N ce, gs, ar_N kd, ar_N fa, ybs, ycs, ar_N sg, ywd, ar_O so, ycd, yws, ar_N nb, ar_N sy, ar_N vl, ar_N pv, ar_N pc, ygu, ar_N gv, ar_N dn, ar_N wo, ar_N (re_zr (7 * x) 7 pp), ar_N yo, ar_N wh, ar_N wt, ar_N wi, ar_N tr, ar_N tg, yone, ytwo, ylv)) (hx : x < 5) : ∀ d t, t + d = 7 → wY_comeIn_78 pos2 (nI x) (nI st) (nI nd) (nI bu) yad (nI wk) (nI nx) (nI kc1) (nI kc0) (nI kc2) (nI kc3) (nI kc4) (nI kc5) (nI kc6) (nI kc7) yts (nI gi) yga (d + 1) (nI t) (ar_N ww) (ar_N rg) (ar_N ce) gs (ar_N kd) (ar_N fa) ybs ycs (ar_N sg) ywd (ar_O so) ycd yws (ar_N nb) (ar_N sy) (ar_N vl) (ar_N pv) (ar_N pc) ygu (ar_N gv) (ar_N dn) (ar_N wo) (ar_N (re_zr (7 * x) t pp)) (ar_N yo) (ar_N wh) (ar_N wt) (ar_N wi) (ar_N tr) (ar_N tg) yone ytwo ylv := by
  intro d
  induction d with
  | zero =>
    intro t ht
    have e : t = 7 := by omega
    subst e
    rw [wY_comeIn_78]
    exact br_t (by decide) hp
  | succ d ih =>
    intro t ht
    have i1 := ih (t + 1) (by omega)
    rw [wY_comeIn_78]
    refine br_f (nI_ge (b := 7) (by omega) (by omega)) ?_
    rw [show (7 : Int32) * nI x + nI t = nI (7 * x + t) by rw [show (7 : Int32) = nI 7 from rfl, ar_mul, ar_add]]
    refine ⟨vp_in_nI (by omega) (by omega), fun y ey w ew => ?_⟩
    rw [nI_clamp (by omega), show (0 : Int32) = nI 0 from rfl, ar_bo0, ar_uN, re_zrS] at ey
    rw [ey, ew, nI_1]
    exact i1
theorem yq_come52 {x : Nat} (hx : x < 5) (hp : ∃ f, wY_comeIn_78 pos2 (nI x) (nI st) (nI nd) (nI bu) yad (nI wk) (nI nx) (nI kc1) (nI kc0) (nI kc2) (nI kc3) (nI kc4) (nI kc5) (nI kc6) (nI kc7) yts (nI gi) yga f (nI 0) (ar_N ww) (ar_N rg) (ar_N ce) gs (ar_N kd) (ar_N fa) ybs ycs (ar_N sg) ywd (ar_O so) ycd yws (ar_N nb) (ar_N sy) (ar_N vl) (ar_N pv) (ar_N pc) ygu (ar_N gv) (ar_N dn) (ar_N (re_zr (24 * x) 24 wo)) (ar_N pp) (ar_N yo) (ar_N wh) (ar_N wt) (ar_N wi) (ar_N tr) (ar_N tg) yone ytwo ylv) : ∀ d t, t + d = 24 → wY_comeIn_52 pos2 (nI x) (nI st) (nI nd) (nI bu) yad (nI wk) (nI nx) (nI kc1) (nI kc0) (nI kc2) (nI kc3) (nI kc4) (nI kc5) (nI kc6) (nI kc7) yts (nI gi) yga (d + 1) (nI t) (ar_N ww) (ar_N rg) (ar_N ce) gs (ar_N kd) (ar_N fa) ybs ycs (ar_N sg) ywd (ar_O so) ycd yws (ar_N nb) (ar_N sy) (ar_N vl) (ar_N pv) (ar_N pc) ygu (ar_N gv) (ar_N dn) (ar_N (re_zr (24 * x) t wo)) (ar_N pp) (ar_N yo) (ar_N wh) (ar_N wt) (ar_N wi) (ar_N tr) (ar_N tg) yone ytwo ylv := by
  intro d
  induction d with
  | zero =>
    intro t ht
    have e : t = 24 := by omega
    subst e
    rw [wY_comeIn_52]
    exact br_t (by decide) hp
  | succ d ih =>
    intro t ht
    have i1 := ih (t + 1) (by omega)
    rw [wY_comeIn_52]
    refine br_f (nI_ge (b := 24) (by omega) (by omega)) ?_
    rw [show (24 : Int32) * nI x + nI t = nI (24 * x + t) by rw [show (24 : Int32) = nI 24 from rfl, ar_mul, ar_add]]
    refine ⟨vp_in_nI (by omega) (by omega), fun y ey w ew => ?_⟩
    rw [nI_clamp (by omega), show (0 : Int32) = nI 0 from rfl, ar_bo0, ar_uN, re_zrS] at ey
    rw [ey, ew, nI_1]
    exact i1
theorem yq_comeIn (hw : wk < 5) (hp : pos2 (nI st, nI nd, nI bu, yad, nI (wk + 1), nI (nx + 1), nI kc1, nI kc0, nI kc2, nI kc3, nI kc4, nI kc5, nI kc6, nI kc7, yts, nI gi, yga, ar_N ww, ar_N rg, ar_N ce, gs, ar_N kd, ar_N fa, ybs, ycs, ar_N sg, ywd, ar_O so, ycd, yws, ar_N (ar_u nb wk nx), ar_N (ar_u sy wk 0), ar_N vl, ar_N pv, ar_N pc, upd ygu wk 0, ar_N gv, ar_N (ar_u dn wk 0), ar_N (re_zr (24 * wk) 24 wo), ar_N (re_zr (7 * wk) 7 pp), ar_N yo, ar_N wh, ar_N wt, ar_N wi, ar_N tr, ar_N tg, yone, ytwo, ylv)) : wpY_comeIn pos2 (nI st, nI nd, nI bu, yad, nI wk, nI nx, nI kc1, nI kc0, nI kc2, nI kc3, nI kc4, nI kc5, nI kc6, nI kc7, yts, nI gi, yga, ar_N ww, ar_N rg, ar_N ce, gs, ar_N kd, ar_N fa, ybs, ycs, ar_N sg, ywd, ar_O so, ycd, yws, ar_N nb, ar_N sy, ar_N vl, ar_N pv, ar_N pc, ygu, ar_N gv, ar_N dn, ar_N wo, ar_N pp, ar_N yo, ar_N wh, ar_N wt, ar_N wi, ar_N tr, ar_N tg, yone, ytwo, ylv) := by
  have b : vp_in (nI wk) 5 := vp_in_nI hw (by omega)
  unfold wpY_comeIn
  dsimp only
  rw [nI_clamp (by omega)]
  intro y ey z ez
  refine ⟨b, fun v1 e1 => ⟨b, fun v2 e2 => ⟨b, fun v3 e3 => ⟨b, fun v4 e4 => ⟨25, ?_⟩⟩⟩⟩⟩
  rw [nI_1] at ey ez
  rw [ar_uN] at e1
  rw [show (0 : Int32) = nI 0 from rfl, ar_uN] at e2
  rw [show (0 : Int32) = nI 0 from rfl, ar_bo0, ar_uN] at e3
  rw [ey, ez, e1, e2, e3, e4]
  have k1 := yq_come78 (pos2 := pos2) (x := wk) (wk := wk + 1) (nx := nx + 1) (nb := ar_u nb wk nx) (sy := ar_u sy wk 0) (dn := ar_u dn wk 0) (ygu := upd ygu wk 0) (wo := re_zr (24 * wk) 24 wo) (pp := pp) hp hw 7 0 (by omega)
  rw [re_zr0] at k1
  have k2 := yq_come52 (pos2 := pos2) (x := wk) (wk := wk + 1) (nx := nx + 1) (nb := ar_u nb wk nx) (sy := ar_u sy wk 0) (dn := ar_u dn wk 0) (ygu := upd ygu wk 0) (wo := wo) (pp := pp) hw ⟨8, k1⟩ 24 0 (by omega)
  rw [re_zr0] at k2
  exact k2
/-- one more in the row -/
theorem pr_come (hO : re_O st wk nx (ct 1) nm nb sy) (hV : re_V nd wk kd fa sg wd sy gs xgu ygu xdn dn xsn vl wo gv) (hQ : re_Q wk ww sy xon xpr xcl pv pc pp yo) (hP : re_P wk so ws sy dn pp) (hz : nm 0 = 0) (hs : wk < st) : re_O st (wk + 1) (nx + 1) (ct 1) (ar_u nm 0 (nx + 1)) (ar_u nb wk nx) (ar_u sy wk 0) ∧ re_V nd (wk + 1) kd fa sg wd (ar_u sy wk 0) gs (upd xgu 0 0) (upd ygu wk 0) (ar_u xdn 0 0) (ar_u dn wk 0) xsn vl (re_zr (24 * wk) 24 wo) gv ∧ re_Q (wk + 1) ww (ar_u sy wk 0) (upd xon 0 0) xpr xcl pv pc (re_zr (7 * wk) 7 pp) yo ∧ re_P (wk + 1) so ws (ar_u sy wk 0) (ar_u dn wk 0) (re_zr (7 * wk) 7 pp) := by
  have pos : ∀ y, y < wk → sy y ≠ 0 := by
    intro y hy e
    have := re_nmn hO hy
    rw [e] at this
    exact this hz
  refine ⟨⟨fun y hy => ?_, fun y hy => ?_, fun y hy => ?_, fun s => ⟨fun h5 hs' => ?_, fun h5 => ?_⟩, ?_⟩, ⟨fun y hy => ?_, fun y hy n hn' hav => ?_, fun y hy n hn' => ?_, fun y hy r hr hb => ?_⟩, ⟨fun y hy t ht => ?_, fun y hy hpp => ?_, hQ.2.2⟩, fun y hy t ht => ?_⟩
  · by_cases e : y = wk
    · subst e; rw [ar_us]; omega
    · rw [ar_un e]; exact hO.1 y (by omega)
  · by_cases e : y + 1 = wk
    · subst e
      rw [ar_us, ar_un (by omega)]
      have := pos y (by omega)
      omega
    · rw [ar_un e, ar_un (by omega)]; exact hO.2.1 y (by omega)
  · by_cases e : y = wk
    · subst e
      rw [ar_us, ar_us, ar_us]
      exact ⟨rfl, hO.2.2.2.2⟩
    · rw [ar_un e, ar_un e, ar_un (pos y (by omega))]
      exact hO.2.2.1 y (by omega)
  · have s0 : s ≠ 0 := by
      intro q
      exact hs' wk (by omega) (by rw [ar_us, q])
    rw [ar_un s0]
    refine (hO.2.2.2.1 s).1 h5 (fun y hy q => hs' y (by omega) ?_)
    rw [ar_un (by omega)]; exact q
  · rw [ar_un (by omega)]; exact (hO.2.2.2.1 s).2 h5
  · have := hO.2.2.2.2
    omega
  · by_cases e : y = wk
    · subst e
      rw [ar_us, ar_us, ar_us, pk_us, pk_us]
      exact ⟨rfl, by omega, rfl, b_0 6⟩
    · rw [ar_un e, ar_un e, ar_un (pos y (by omega)), pk_un (pos y (by omega)), pk_un e]
      exact hV.1 y (by omega)
  · by_cases e : y = wk
    · subst e
      rw [ar_us, ar_us] at hav
      unfold re_av at hav
      omega
    · rw [ar_un e, ar_un e] at hav
      rw [ar_un e]
      exact hV.2.1 y (by omega) n hn' hav
  · by_cases e : y = wk
    · subst e
      rw [re_zrI hn', ar_us, ar_us]
      refine ⟨by omega, fun _ => ?_⟩
      unfold re_av
      omega
    · rw [re_zrX (by omega), ar_un e, ar_un e]
      exact hV.2.2.1 y (by omega) n hn'
  · by_cases e : y = wk
    · subst e
      rw [pk_us, b_0] at hb
      cases hb
    · rw [pk_un e] at hb
      rw [ar_un e, ar_un e]
      exact hV.2.2.2 y (by omega) r hr hb
  · by_cases e : y = wk
    · subst e
      rw [re_zrI ht, ar_us, pk_us, b_0]
      refine ⟨by omega, (hQ.2.2 _).2, ⟨fun q => (by cases q), fun q => (by omega)⟩, fun q => (by omega)⟩
    · rw [re_zrX (by omega), ar_un e, pk_un (pos y (by omega))]
      exact hQ.1 y (by omega) t ht
  · by_cases e : y = wk
    · subst e
      rw [re_zrI (by omega)] at hpp
      omega
    · rw [re_zrX (by omega)] at hpp
      rw [ar_un e]
      exact hQ.2.1 y (by omega) hpp
  · by_cases e : y = wk
    · subst e
      rw [re_zrI ht, ar_us, ar_us]
      unfold re_av
      constructor
      · intro q; omega
      · rintro ⟨q1, q2⟩; omega
    · rw [re_zrX (by omega), ar_un e, ar_un e]
      exact hP y (by omega) t ht
/-- both passes -/
theorem pr_cyc2 (hM : re_M st nd kd fa sb tc sg wd ww so cd ws ad gs xcd xws ycd yws ybs ycs xad yad) (hF : re_F st nd kd fa sb tc sg wd ww so cd ws ad gs) (hwd : ∀ n, n < nd → ywd n = nI (wd n)) (hO : re_O st wk nx (ct 1) nm nb sy) (hV : re_V nd wk kd fa sg wd sy gs xgu ygu xdn dn xsn vl wo gv) (hQ : re_Q wk ww sy xon xpr xcl pv pc pp yo) (hP : re_P wk so ws sy dn pp) (hC : re_C ww rg ce ct wh wt wi xtr) (hc : nx < 2 ^ 20) :
    ∃ (wk' nx' gi' : Nat) (yts' : Int32) (nm' ct' xdn' xsn' xpr' xcl' vl' pv' pc' gv' dn' wo' pp' yo' tr' tg' nb' sy' rg' ce' wh' wt' wi' : Nat → Nat) (xon' xgu' ygu' : Nat → Int32) (xtr' : Nat → Int64), re_O st wk' nx' (ct' 1) nm' nb' sy' ∧ re_V nd wk' kd fa sg wd sy' gs xgu' ygu' xdn' dn' xsn' vl' wo' gv' ∧ re_Q wk' ww sy' xon' xpr' xcl' pv' pc' pp' yo' ∧ re_P wk' so ws sy' dn' pp' ∧ re_C ww rg' ce' ct' wh' wt' wi' xtr' ∧ nx' ≤ nx ∧ (0 < wk → wk' < wk ∨ (wk' = wk ∧ sy' 0 = sy 0 + 1)) ∧
      (∀ posu : SX → Prop, posu (nI st, nI nd, nI bu, xad, nI nx', xga, xto, ar_N kd, ar_N sb, ar_N tc, ar_N sg, ar_N wd, ar_N fa, ar_N ww, gs, ar_O so, xcd, xws, ar_N rg', ar_N ce', ar_O nm', xon', xgu', ar_N xdn', ar_N xsn', ar_N xpr', ar_N xcl', xtr', ar_N ct', xlf, xrt, xlv) → ∃ f, wX_cycle_34 posu f (ar_i st) (nI st) (nI nd) (nI bu) xad (nI nx) xga xto (ar_N kd) (ar_N sb) (ar_N tc) (ar_N sg) (ar_N wd) (ar_N fa) (ar_N ww) gs (ar_O so) xcd xws (ar_N rg) (ar_N ce) (ar_O nm) xon xgu (ar_N xdn) (ar_N xsn) (ar_N xpr) (ar_N xcl) xtr (ar_N ct) xlf xrt xlv) ∧ (∀ pos2 : SY → Prop, pos2 (nI st, nI nd, nI bu, yad, nI wk', nI nx', nI (ct' 1), nI (ct' 0), nI (ct' 2), nI (ct' 3), nI (ct' 4), nI (ct' 5), nI (ct' 6), nI (ct' 7), yts', nI gi', yga, ar_N ww, ar_N rg', ar_N ce', gs, ar_N kd, ar_N fa, ybs, ycs, ar_N sg, ywd, ar_O so, ycd, yws, ar_N nb', ar_N sy', ar_N vl', ar_N pv', ar_N pc', ygu', ar_N gv', ar_N dn', ar_N wo', ar_N pp', ar_N yo', ar_N wh', ar_N wt', ar_N wi', ar_N tr', ar_N tg', yone, ytwo, ylv) → ∃ f, wY_cycle_41 pos2 f (nI 0) (nI st) (nI nd) (nI bu) yad (nI wk) (nI nx) (nI (ct 1)) (nI (ct 0)) (nI (ct 2)) (nI (ct 3)) (nI (ct 4)) (nI (ct 5)) (nI (ct 6)) (nI (ct 7)) yts (nI gi) yga (ar_N ww) (ar_N rg) (ar_N ce) gs (ar_N kd) (ar_N fa) ybs ycs (ar_N sg) ywd (ar_O so) ycd yws (ar_N nb) (ar_N sy) (ar_N vl) (ar_N pv) (ar_N pc) ygu (ar_N gv) (ar_N dn) (ar_N wo) (ar_N pp) (ar_N yo) (ar_N wh) (ar_N wt) (ar_N wi) (ar_N tr) (ar_N tg) yone ytwo ylv) := by
  have hn := hO.2.2.2.2
  obtain ⟨wk1, nx1, gi1, yts1, nm1, ct1, xdn1, xsn1, xpr1, xcl1, vl1, pv1, pc1, gv1, dn1, wo1, pp1, yo1, tr1, tg1, xon1, xgu1, ygu1, i1, i2, i3, i4, i5, i6, i7, i8, i9, i10, i11⟩ := pr_loop1 (bu := bu) (xga := xga) (xto := xto) (xlf := xlf) (xrt := xrt) (xlv := xlv) (yga := yga) (yone := yone) (ytwo := ytwo) (ylv := ylv) (nb := nb) (sy := sy) (rg := rg) (ce := ce) (wh := wh) (wt := wt) (wi := wi) (xtr := xtr) hM hF hwd st 0 (wk + 1) wk nx gi yts nm ct xdn xsn xpr xcl vl pv pc gv dn wo pp yo tr tg xon xgu ygu hO hV hQ hP hC (by omega) (Nat.zero_le _) (Nat.le_refl _) (fun x' h => absurd h (by omega)) (fun x' _ h => hO.1 x' h) (by omega) (fun h => absurd h (by omega))
  have hn1 := i5.2.2.2.2
  obtain ⟨wk', nm', ct', xdn', xsn', xpr', xcl', vl', pv', pc', gv', dn', wo', pp', yo', nb', sy', rg', ce', wh', wt', wi', xon', xgu', ygu', xtr', j1, j2, j3, j4, j5, j6, j7, j8, j9, j10, j11⟩ := pr_loop2 (nx := nx1) (gi := gi1) (yts := yts1) (tr := tr1) (tg := tg1) (bu := bu) (xga := xga) (xto := xto) (xlf := xlf) (xrt := xrt) (xlv := xlv) (yga := yga) (ywd := ywd) (yone := yone) (ytwo := ytwo) (ylv := ylv) hM st 0 (wk1 + 1) wk1 nm1 ct1 xdn1 xsn1 xpr1 xcl1 vl1 pv1 pc1 gv1 dn1 wo1 pp1 yo1 nb sy rg ce wh wt wi xon1 xgu1 ygu1 xtr i5 i6 i7 i8 (re_Cm hC i3 i4) (by omega) (Nat.zero_le _) (Nat.le_refl _) (fun x' h => absurd h (by omega)) (fun x' _ h => i5.1 x' h) (by omega)
  refine ⟨wk', nx1, gi1, yts1, nm', ct', xdn', xsn', xpr', xcl', vl', pv', pc', gv', dn', wo', pp', yo', tr1, tg1, nb', sy', rg', ce', wh', wt', wi', xon', xgu', ygu', xtr', j3, j4, j5, j6, j7, by omega, fun h => ?_, fun posu hp => ⟨_, i10 posu ⟨_, j10 posu hp⟩⟩, fun pos2 hp => ⟨_, i11 pos2 ⟨_, j11 pos2 hp⟩⟩⟩
  rcases j9 rfl (i2 h) (i9 h) with q | ⟨q1, q2⟩
  · exact Or.inl (by omega)
  · rcases Nat.lt_or_ge wk1 wk with q3 | q3
    · exact Or.inl (by omega)
    · exact Or.inr ⟨by omega, q2⟩
/-- a cycle -/
theorem pr_cycle (b : Nat) (hb : b = 0 ∨ b = 1) (hM : re_M st nd kd fa sb tc sg wd ww so cd ws ad gs xcd xws ycd yws ybs ycs xad yad) (hF : re_F st nd kd fa sb tc sg wd ww so cd ws ad gs) (hwd : ∀ n, n < nd → ywd n = nI (wd n)) (hO : re_O st wk nx (ct 1) nm nb sy) (hV : re_V nd wk kd fa sg wd sy gs xgu ygu xdn dn xsn vl wo gv) (hQ : re_Q wk ww sy xon xpr xcl pv pc pp yo) (hP : re_P wk so ws sy dn pp) (hC : re_C ww rg ce ct wh wt wi xtr) (hc : nx + 1 < 2 ^ 20) :
    ∃ (wk' nx' gi' : Nat) (yts' : Int32) (nm' ct' xdn' xsn' xpr' xcl' vl' pv' pc' gv' dn' wo' pp' yo' tr' tg' nb' sy' rg' ce' wh' wt' wi' : Nat → Nat) (xon' xgu' ygu' : Nat → Int32) (xtr' : Nat → Int64), re_O st wk' nx' (ct' 1) nm' nb' sy' ∧ re_V nd wk' kd fa sg wd sy' gs xgu' ygu' xdn' dn' xsn' vl' wo' gv' ∧ re_Q wk' ww sy' xon' xpr' xcl' pv' pc' pp' yo' ∧ re_P wk' so ws sy' dn' pp' ∧ re_C ww rg' ce' ct' wh' wt' wi' xtr' ∧ nx' ≤ nx + 1 ∧ (b = 1 → nx' ≤ nx ∧ (0 < wk → wk' < wk ∨ (wk' = wk ∧ sy' 0 = sy 0 + 1))) ∧
      (∀ posu : SX → Prop, posu (nI st, nI nd, nI bu, xad, nI nx', xga, xto, ar_N kd, ar_N sb, ar_N tc, ar_N sg, ar_N wd, ar_N fa, ar_N ww, gs, ar_O so, xcd, xws, ar_N rg', ar_N ce', ar_O nm', xon', xgu', ar_N xdn', ar_N xsn', ar_N xpr', ar_N xcl', xtr', ar_N ct', xlf, xrt, xlv) → wpX_cycle posu (nI st, nI nd, nI bu, xad, nI nx, xga, xto, ar_N kd, ar_N sb, ar_N tc, ar_N sg, ar_N wd, ar_N fa, ar_N ww, gs, ar_O so, xcd, xws, ar_N rg, ar_N ce, ar_O nm, xon, xgu, ar_N xdn, ar_N xsn, ar_N xpr, ar_N xcl, xtr, ar_N ct, xlf, xrt, xlv) (nI b)) ∧ (∀ pos2 : SY → Prop, pos2 (nI st, nI nd, nI bu, yad, nI wk', nI nx', nI (ct' 1), nI (ct' 0), nI (ct' 2), nI (ct' 3), nI (ct' 4), nI (ct' 5), nI (ct' 6), nI (ct' 7), yts', nI gi', yga, ar_N ww, ar_N rg', ar_N ce', gs, ar_N kd, ar_N fa, ybs, ycs, ar_N sg, ywd, ar_O so, ycd, yws, ar_N nb', ar_N sy', ar_N vl', ar_N pv', ar_N pc', ygu', ar_N gv', ar_N dn', ar_N wo', ar_N pp', ar_N yo', ar_N wh', ar_N wt', ar_N wi', ar_N tr', ar_N tg', yone, ytwo, ylv) → wpY_cycle pos2 (nI st, nI nd, nI bu, yad, nI wk, nI nx, nI (ct 1), nI (ct 0), nI (ct 2), nI (ct 3), nI (ct 4), nI (ct 5), nI (ct 6), nI (ct 7), yts, nI gi, yga, ar_N ww, ar_N rg, ar_N ce, gs, ar_N kd, ar_N fa, ybs, ycs, ar_N sg, ywd, ar_O so, ycd, yws, ar_N nb, ar_N sy, ar_N vl, ar_N pv, ar_N pc, ygu, ar_N gv, ar_N dn, ar_N wo, ar_N pp, ar_N yo, ar_N wh, ar_N wt, ar_N wi, ar_N tr, ar_N tg, yone, ytwo, ylv) (nI b)) := by
  have hst := hM.1
  have hwk := re_wk hO
  have hn := hO.2.2.2.2
  have hnm := re_nmb hO (by omega) 0
  have hC' : re_C ww rg ce (ar_u ct 0 (ct 0 + 1)) wh wt wi xtr := re_Cm hC rfl rfl
  by_cases come : b = 0 ∧ nm 0 = 0
  · obtain ⟨rfl, z⟩ := come
    have hws : wk < st := by
      by_cases q : wk = 0
      · omega
      · refine re_wk0 hO (by omega) ?_
        have := re_nmn hO (x := wk - 1) (by omega)
        rcases Nat.eq_zero_or_pos (sy (wk - 1)) with c | c
        · rw [c] at this; exact absurd z this
        · exact c
    obtain ⟨r1, r2, r3, r4⟩ := pr_come hO hV hQ hP z hws
    obtain ⟨wk', nx', gi', yts', nm', ct', xdn', xsn', xpr', xcl', vl', pv', pc', gv', dn', wo', pp', yo', tr', tg', nb', sy', rg', ce', wh', wt', wi', xon', xgu', ygu', xtr', i1, i2, i3, i4, i5, i6, i7, i8, i9⟩ := pr_cyc2 (gi := gi) (yts := yts) (tr := tr) (tg := tg) (bu := bu) (xga := xga) (xto := xto) (xlf := xlf) (xrt := xrt) (xlv := xlv) (yga := yga) (yone := yone) (ytwo := ytwo) (ylv := ylv) (ct := ar_u ct 0 (ct 0 + 1)) hM hF hwd r1 r2 r3 r4 hC' (by omega)
    refine ⟨wk', nx', gi', yts', nm', ct', xdn', xsn', xpr', xcl', vl', pv', pc', gv', dn', wo', pp', yo', tr', tg', nb', sy', rg', ce', wh', wt', wi', xon', xgu', ygu', xtr', i1, i2, i3, i4, i5, i6, fun q => absurd q (by omega), fun posu hp => ?_, fun pos2 hp => ?_⟩
    · unfold wpX_cycle
      intro y ey
      rw [ar_Nap, nI_1, ar_uN] at ey
      rw [ey]
      refine br_f (by rw [ar_Oap, z]; decide) (br_t rfl ?_)
      refine xq_comeIn ?_
      intro w ew
      rw [show w = ar_i st from ew.trans (ar_sub1 st)]
      exact i8 posu hp
    · have go : wY_cycle_35 pos2 (nI st) (nI nd) (nI bu) yad (nI wk) (nI nx) (nI ((ar_u ct 0 (ct 0 + 1)) 1)) (nI ((ar_u ct 0 (ct 0 + 1)) 0)) (nI ((ar_u ct 0 (ct 0 + 1)) 2)) (nI ((ar_u ct 0 (ct 0 + 1)) 3)) (nI ((ar_u ct 0 (ct 0 + 1)) 4)) (nI ((ar_u ct 0 (ct 0 + 1)) 5)) (nI ((ar_u ct 0 (ct 0 + 1)) 6)) (nI ((ar_u ct 0 (ct 0 + 1)) 7)) yts (nI gi) yga (ar_N ww) (ar_N rg) (ar_N ce) gs (ar_N kd) (ar_N fa) ybs ycs (ar_N sg) ywd (ar_O so) ycd yws (ar_N nb) (ar_N sy) (ar_N vl) (ar_N pv) (ar_N pc) ygu (ar_N gv) (ar_N dn) (ar_N wo) (ar_N pp) (ar_N yo) (ar_N wh) (ar_N wt) (ar_N wi) (ar_N tr) (ar_N tg) yone ytwo ylv := by
        unfold wY_cycle_35
        refine yq_comeIn (by omega) ?_
        exact i9 pos2 hp
      unfold wpY_cycle
      intro y ey
      rw [nI_1] at ey
      rw [ey]
      refine br_t rfl ?_
      refine pk_eq wk 0 (fun _ => go) (fun q => ?_)
      rw [show nI wk - 1 = nI (wk - 1) by rw [show wk = wk - 1 + 1 by omega]; exact nI_pred _]
      refine ⟨vp_in_nI (by omega) (by omega), ?_⟩
      have h1 := hO.1 (wk - 1) (by omega)
      have h2 := re_nmn hO (x := wk - 1) (by omega)
      rw [nI_clamp (by omega), ar_Nap]
      refine pk_le (sy (wk - 1)) 0 (fun c => ?_) (fun _ => go)
      rw [show sy (wk - 1) = 0 by omega] at h2
      exact absurd z h2
  · obtain ⟨wk', nx', gi', yts', nm', ct', xdn', xsn', xpr', xcl', vl', pv', pc', gv', dn', wo', pp', yo', tr', tg', nb', sy', rg', ce', wh', wt', wi', xon', xgu', ygu', xtr', i1, i2, i3, i4, i5, i6, i7, i8, i9⟩ := pr_cyc2 (gi := gi) (yts := yts) (tr := tr) (tg := tg) (bu := bu) (xga := xga) (xto := xto) (xlf := xlf) (xrt := xrt) (xlv := xlv) (yga := yga) (yone := yone) (ytwo := ytwo) (ylv := ylv) (ct := ar_u ct 0 (ct 0 + 1)) hM hF hwd hO hV hQ hP hC' (by omega)
    refine ⟨wk', nx', gi', yts', nm', ct', xdn', xsn', xpr', xcl', vl', pv', pc', gv', dn', wo', pp', yo', tr', tg', nb', sy', rg', ce', wh', wt', wi', xon', xgu', ygu', xtr', i1, i2, i3, i4, i5, by omega, fun q => ⟨i6, i7⟩, fun posu hp => ?_, fun pos2 hp => ?_⟩
    · have go : ∀ w : Int32, w = nI st - 1 → ∃ f, wX_cycle_34 posu f w (nI st) (nI nd) (nI bu) xad (nI nx) xga xto (ar_N kd) (ar_N sb) (ar_N tc) (ar_N sg) (ar_N wd) (ar_N fa) (ar_N ww) gs (ar_O so) xcd xws (ar_N rg) (ar_N ce) (ar_O nm) xon xgu (ar_N xdn) (ar_N xsn) (ar_N xpr) (ar_N xcl) xtr (ar_N (ar_u ct 0 (ct 0 + 1))) xlf xrt xlv := by
        intro w ew
        rw [show w = ar_i st from ew.trans (ar_sub1 st)]
        exact i8 posu hp
      unfold wpX_cycle
      intro y ey
      rw [ar_Nap, nI_1, ar_uN] at ey
      rw [ey]
      by_cases z : nm 0 = 0
      · exact br_f (by rw [ar_Oap, z]; decide) (br_f (by rw [show (0 : Int32) = nI 0 from rfl, nI_eq (by omega) (by omega)]; exact fun q => come ⟨q, z⟩) go)
      · exact br_t (by rw [ar_Oap, show (0 : Int32) = nI 0 from rfl, ar_lei hnm (by omega)]; omega) go
    · have go := i9 pos2 hp
      unfold wpY_cycle
      intro y ey
      rw [nI_1] at ey
      rw [ey]
      refine pk_eq b 0 (fun b0 => ?_) (fun b0 => go)
      have z : nm 0 ≠ 0 := fun q => come ⟨b0, q⟩
      obtain ⟨x, hx, ex⟩ := (re_who hO (s := 0) (by omega)).resolve_left z
      have xl : x = wk - 1 := by
        rcases Nat.lt_or_ge x (wk - 1) with q | q
        · have := re_lt hO q (by omega); omega
        · omega
      refine br_f (by rw [show (0 : Int32) = nI 0 from rfl, nI_eq (by omega) (by omega)]; omega) ?_
      rw [show nI wk - 1 = nI x by rw [xl, show wk = wk - 1 + 1 by omega]; exact nI_pred _]
      refine ⟨vp_in_nI (by omega) (by omega), ?_⟩
      rw [nI_clamp (by omega), ar_Nap, ex]
      exact br_t (by decide) go
end
end
section
/-! runs of cycles -/
section
variable {st nd bu nx wk kc1 kc0 kc2 kc3 kc4 kc5 kc6 kc7 gi ad : Nat} {xad xga xto yad yts yga : Int32} {kd sb tc sg wd fa ww so rg ce nm xdn xsn xpr xcl ct nb sy vl pv pc gv dn wo pp yo wh wt wi tr tg cd ws : Nat → Nat} {gs xcd xws xon xgu xlf xrt xlv ybs ycs ywd ycd yws ygu yone ytwo ylv : Nat → Int32} {xtr : Nat → Int64}
variable {post : Int32 → Prop}
theorem xq_isEmpty (hs : st ≤ 5) (hO : re_O st wk nx (ct 1) nm nb sy) (hc : ct 1 + wk < 2 ^ 31) (h1 : wk = 0 → post 1) (h0 : wk ≠ 0 → post 0) : wpX_isEmpty post (nI st, nI nd, nI bu, xad, nI nx, xga, xto, ar_N kd, ar_N sb, ar_N tc, ar_N sg, ar_N wd, ar_N fa, ar_N ww, gs, ar_O so, xcd, xws, ar_N rg, ar_N ce, ar_O nm, xon, xgu, ar_N xdn, ar_N xsn, ar_N xpr, ar_N xcl, xtr, ar_N ct, xlf, xrt, xlv) := by
  have main : ∀ d j, j + d = st → (∀ i, i < j → nm i = 0) → wX_isEmpty_2 post (nI st) (nI nd) (nI bu) xad (nI nx) xga xto (ar_N kd) (ar_N sb) (ar_N tc) (ar_N sg) (ar_N wd) (ar_N fa) (ar_N ww) gs (ar_O so) xcd xws (ar_N rg) (ar_N ce) (ar_O nm) xon xgu (ar_N xdn) (ar_N xsn) (ar_N xpr) (ar_N xcl) xtr (ar_N ct) xlf xrt xlv (d + 1) (nI j) := by
    intro d
    induction d with
    | zero =>
      intro j hj hz
      rw [wX_isEmpty_2]
      refine br_t (nI_le (by omega) (by omega)) (h1 ?_)
      rcases Nat.eq_zero_or_pos wk with q | q
      · exact q
      · have := hO.1 0 q
        exact absurd (hz (sy 0) (by omega)) (re_nmn hO q)
    | succ d ih =>
      intro j hj hz
      have hb := re_nmb hO hc j
      rw [wX_isEmpty_2]
      refine br_f (nI_ge (by omega) (by omega)) ⟨vp_in_nI (by omega) (by omega), ?_⟩
      rw [nI_clamp (by omega), ar_Oap]
      by_cases z : nm j = 0
      · refine br_t (by rw [z]; decide) (fun y ey => ?_)
        rw [ey, nI_1]
        refine ih (j + 1) (by omega) (fun i hi => ?_)
        by_cases e : i = j
        · rw [e]; exact z
        · exact hz i (by omega)
      · refine br_f (by rw [show (0 : Int32) = nI 0 from rfl, ar_ilt hb (by omega)]; omega) (h0 ?_)
        obtain ⟨x, hx, -⟩ := (re_who hO (s := j) (by omega)).resolve_left z
        omega
  exact ⟨st + 1, main st 0 (by omega) (fun i hi => absurd hi (by omega))⟩
theorem pr_run {n c0 : Nat} (hn : n ≤ 100) (hM : re_M st nd kd fa sb tc sg wd ww so cd ws ad gs xcd xws ycd yws ybs ycs xad yad) (hF : re_F st nd kd fa sb tc sg wd ww so cd ws ad gs) (hwd : ∀ n, n < nd → ywd n = nI (wd n)) : ∀ (d j : Nat) (wk nx gi : Nat) (yts : Int32) (nm ct xdn xsn xpr xcl vl pv pc gv dn wo pp yo tr tg nb sy rg ce wh wt wi : Nat → Nat) (xon xgu ygu : Nat → Int32) (xtr : Nat → Int64), j + d = n → re_O st wk nx (ct 1) nm nb sy → re_V nd wk kd fa sg wd sy gs xgu ygu xdn dn xsn vl wo gv → re_Q wk ww sy xon xpr xcl pv pc pp yo → re_P wk so ws sy dn pp → re_C ww rg ce ct wh wt wi xtr → nx + d < 2 ^ 20 →
    ∃ (wk' nx' gi' : Nat) (yts' : Int32) (nm' ct' xdn' xsn' xpr' xcl' vl' pv' pc' gv' dn' wo' pp' yo' tr' tg' nb' sy' rg' ce' wh' wt' wi' : Nat → Nat) (xon' xgu' ygu' : Nat → Int32) (xtr' : Nat → Int64), re_O st wk' nx' (ct' 1) nm' nb' sy' ∧ re_V nd wk' kd fa sg wd sy' gs xgu' ygu' xdn' dn' xsn' vl' wo' gv' ∧ re_Q wk' ww sy' xon' xpr' xcl' pv' pc' pp' yo' ∧ re_P wk' so ws sy' dn' pp' ∧ re_C ww rg' ce' ct' wh' wt' wi' xtr' ∧ nx' ≤ nx + d ∧
      (∀ poss : Int32 → SX → Prop, poss (nI (ct' 1) - nI c0) (nI st, nI nd, nI bu, xad, nI nx', xga, xto, ar_N kd, ar_N sb, ar_N tc, ar_N sg, ar_N wd, ar_N fa, ar_N ww, gs, ar_O so, xcd, xws, ar_N rg', ar_N ce', ar_O nm', xon', xgu', ar_N xdn', ar_N xsn', ar_N xpr', ar_N xcl', xtr', ar_N ct', xlf, xrt, xlv) → wX_run_28 poss (nI n) (nI c0) (d + 1) (nI j) (nI st) (nI nd) (nI bu) xad (nI nx) xga xto (ar_N kd) (ar_N sb) (ar_N tc) (ar_N sg) (ar_N wd) (ar_N fa) (ar_N ww) gs (ar_O so) xcd xws (ar_N rg) (ar_N ce) (ar_O nm) xon xgu (ar_N xdn) (ar_N xsn) (ar_N xpr) (ar_N xcl) xtr (ar_N ct) xlf xrt xlv) ∧ (∀ poss : Int32 → SY → Prop, poss (nI (ct' 1) - nI c0) (nI st, nI nd, nI bu, yad, nI wk', nI nx', nI (ct' 1), nI (ct' 0), nI (ct' 2), nI (ct' 3), nI (ct' 4), nI (ct' 5), nI (ct' 6), nI (ct' 7), yts', nI gi', yga, ar_N ww, ar_N rg', ar_N ce', gs, ar_N kd, ar_N fa, ybs, ycs, ar_N sg, ywd, ar_O so, ycd, yws, ar_N nb', ar_N sy', ar_N vl', ar_N pv', ar_N pc', ygu', ar_N gv', ar_N dn', ar_N wo', ar_N pp', ar_N yo', ar_N wh', ar_N wt', ar_N wi', ar_N tr', ar_N tg', yone, ytwo, ylv) → wY_run_25 poss (nI n) (nI c0) (d + 1) (nI j) (nI st) (nI nd) (nI bu) yad (nI wk) (nI nx) (nI (ct 1)) (nI (ct 0)) (nI (ct 2)) (nI (ct 3)) (nI (ct 4)) (nI (ct 5)) (nI (ct 6)) (nI (ct 7)) yts (nI gi) yga (ar_N ww) (ar_N rg) (ar_N ce) gs (ar_N kd) (ar_N fa) ybs ycs (ar_N sg) ywd (ar_O so) ycd yws (ar_N nb) (ar_N sy) (ar_N vl) (ar_N pv) (ar_N pc) ygu (ar_N gv) (ar_N dn) (ar_N wo) (ar_N pp) (ar_N yo) (ar_N wh) (ar_N wt) (ar_N wi) (ar_N tr) (ar_N tg) yone ytwo ylv) := by
  intro d
  induction d with
  | zero =>
    intro j wk nx gi yts nm ct xdn xsn xpr xcl vl pv pc gv dn wo pp yo tr tg nb sy rg ce wh wt wi xon xgu ygu xtr hj hO hV hQ hP hC hc
    refine ⟨wk, nx, gi, yts, nm, ct, xdn, xsn, xpr, xcl, vl, pv, pc, gv, dn, wo, pp, yo, tr, tg, nb, sy, rg, ce, wh, wt, wi, xon, xgu, ygu, xtr, hO, hV, hQ, hP, hC, Nat.le_refl _, fun poss hp => ?_, fun poss hp => ?_⟩
    · rw [wX_run_28]
      exact br_t (nI_le (by omega) (by omega)) hp
    · rw [wY_run_25]
      exact br_t (nI_le (by omega) (by omega)) hp
  | succ d ih =>
    intro j wk nx gi yts nm ct xdn xsn xpr xcl vl pv pc gv dn wo pp yo tr tg nb sy rg ce wh wt wi xon xgu ygu xtr hj hO hV hQ hP hC hc
    obtain ⟨wk1, nx1, gi1, yts1, nm1, ct1, xdn1, xsn1, xpr1, xcl1, vl1, pv1, pc1, gv1, dn1, wo1, pp1, yo1, tr1, tg1, nb1, sy1, rg1, ce1, wh1, wt1, wi1, xon1, xgu1, ygu1, xtr1, r1, r2, r3, r4, r5, r6, -, r8, r9⟩ := pr_cycle (gi := gi) (yts := yts) (tr := tr) (tg := tg) (bu := bu) (xga := xga) (xto := xto) (xlf := xlf) (xrt := xrt) (xlv := xlv) (yga := yga) (yone := yone) (ytwo := ytwo) (ylv := ylv) 0 (Or.inl rfl) hM hF hwd hO hV hQ hP hC (by omega)
    obtain ⟨wk', nx', gi', yts', nm', ct', xdn', xsn', xpr', xcl', vl', pv', pc', gv', dn', wo', pp', yo', tr', tg', nb', sy', rg', ce', wh', wt', wi', xon', xgu', ygu', xtr', i1, i2, i3, i4, i5, i6, i7, i8⟩ := ih (j + 1) wk1 nx1 gi1 yts1 nm1 ct1 xdn1 xsn1 xpr1 xcl1 vl1 pv1 pc1 gv1 dn1 wo1 pp1 yo1 tr1 tg1 nb1 sy1 rg1 ce1 wh1 wt1 wi1 xon1 xgu1 ygu1 xtr1 (by omega) r1 r2 r3 r4 r5 (by omega)
    refine ⟨wk', nx', gi', yts', nm', ct', xdn', xsn', xpr', xcl', vl', pv', pc', gv', dn', wo', pp', yo', tr', tg', nb', sy', rg', ce', wh', wt', wi', xon', xgu', ygu', xtr', i1, i2, i3, i4, i5, by omega, fun poss hp => ?_, fun poss hp => ?_⟩
    · rw [wX_run_28]
      refine br_f (nI_ge (by omega) (by omega)) ?_
      refine r8 _ ?_
      intro w ew
      rw [ew, nI_1]
      exact i7 poss hp
    · rw [wY_run_25]
      refine br_f (nI_ge (by omega) (by omega)) ?_
      refine r9 _ ?_
      intro w ew
      rw [ew, nI_1]
      exact i8 poss hp
theorem pr_drain (hM : re_M st nd kd fa sb tc sg wd ww so cd ws ad gs xcd xws ycd yws ybs ycs xad yad) (hF : re_F st nd kd fa sb tc sg wd ww so cd ws ad gs) (hwd : ∀ n, n < nd → ywd n = nI (wd n)) : ∀ (m c : Nat) (wk nx gi : Nat) (yts : Int32) (nm ct xdn xsn xpr xcl vl pv pc gv dn wo pp yo tr tg nb sy rg ce wh wt wi : Nat → Nat) (xon xgu ygu : Nat → Int32) (xtr : Nat → Int64), re_O st wk nx (ct 1) nm nb sy → re_V nd wk kd fa sg wd sy gs xgu ygu xdn dn xsn vl wo gv → re_Q wk ww sy xon xpr xcl pv pc pp yo → re_P wk so ws sy dn pp → re_C ww rg ce ct wh wt wi xtr → nx + 1 < 2 ^ 20 → 0 < wk → 6 * wk + (5 - sy 0) ≤ m →
    ∃ e : Nat, ∃ (wk' nx' gi' : Nat) (yts' : Int32) (nm' ct' xdn' xsn' xpr' xcl' vl' pv' pc' gv' dn' wo' pp' yo' tr' tg' nb' sy' rg' ce' wh' wt' wi' : Nat → Nat) (xon' xgu' ygu' : Nat → Int32) (xtr' : Nat → Int64), re_O st wk' nx' (ct' 1) nm' nb' sy' ∧ re_V nd wk' kd fa sg wd sy' gs xgu' ygu' xdn' dn' xsn' vl' wo' gv' ∧ re_Q wk' ww sy' xon' xpr' xcl' pv' pc' pp' yo' ∧ re_P wk' so ws sy' dn' pp' ∧ re_C ww rg' ce' ct' wh' wt' wi' xtr' ∧ nx' ≤ nx ∧ wk' = 0 ∧
      (∀ poss : Int32 → SX → Prop, poss (nI e) (nI st, nI nd, nI bu, xad, nI nx', xga, xto, ar_N kd, ar_N sb, ar_N tc, ar_N sg, ar_N wd, ar_N fa, ar_N ww, gs, ar_O so, xcd, xws, ar_N rg', ar_N ce', ar_O nm', xon', xgu', ar_N xdn', ar_N xsn', ar_N xpr', ar_N xcl', xtr', ar_N ct', xlf, xrt, xlv) → wX_drain_22 poss m (nI c) (nI st) (nI nd) (nI bu) xad (nI nx) xga xto (ar_N kd) (ar_N sb) (ar_N tc) (ar_N sg) (ar_N wd) (ar_N fa) (ar_N ww) gs (ar_O so) xcd xws (ar_N rg) (ar_N ce) (ar_O nm) xon xgu (ar_N xdn) (ar_N xsn) (ar_N xpr) (ar_N xcl) xtr (ar_N ct) xlf xrt xlv) ∧ (∀ poss : Int32 → SY → Prop, poss (nI e) (nI st, nI nd, nI bu, yad, nI wk', nI nx', nI (ct' 1), nI (ct' 0), nI (ct' 2), nI (ct' 3), nI (ct' 4), nI (ct' 5), nI (ct' 6), nI (ct' 7), yts', nI gi', yga, ar_N ww, ar_N rg', ar_N ce', gs, ar_N kd, ar_N fa, ybs, ycs, ar_N sg, ywd, ar_O so, ycd, yws, ar_N nb', ar_N sy', ar_N vl', ar_N pv', ar_N pc', ygu', ar_N gv', ar_N dn', ar_N wo', ar_N pp', ar_N yo', ar_N wh', ar_N wt', ar_N wi', ar_N tr', ar_N tg', yone, ytwo, ylv) → wY_drain_11 poss (m + 1) (nI c) (nI st) (nI nd) (nI bu) yad (nI wk) (nI nx) (nI (ct 1)) (nI (ct 0)) (nI (ct 2)) (nI (ct 3)) (nI (ct 4)) (nI (ct 5)) (nI (ct 6)) (nI (ct 7)) yts (nI gi) yga (ar_N ww) (ar_N rg) (ar_N ce) gs (ar_N kd) (ar_N fa) ybs ycs (ar_N sg) ywd (ar_O so) ycd yws (ar_N nb) (ar_N sy) (ar_N vl) (ar_N pv) (ar_N pc) ygu (ar_N gv) (ar_N dn) (ar_N wo) (ar_N pp) (ar_N yo) (ar_N wh) (ar_N wt) (ar_N wi) (ar_N tr) (ar_N tg) yone ytwo ylv) := by
  have hst := hM.1
  intro m
  induction m with
  | zero =>
    intro c wk nx gi yts nm ct xdn xsn xpr xcl vl pv pc gv dn wo pp yo tr tg nb sy rg ce wh wt wi xon xgu ygu xtr hO hV hQ hP hC hc h0 hm
    omega
  | succ m ih =>
    intro c wk nx gi yts nm ct xdn xsn xpr xcl vl pv pc gv dn wo pp yo tr tg nb sy rg ce wh wt wi xon xgu ygu xtr hO hV hQ hP hC hc h0 hm
    have hwk := re_wk hO
    have hs := hO.1 0 h0
    obtain ⟨wk1, nx1, gi1, yts1, nm1, ct1, xdn1, xsn1, xpr1, xcl1, vl1, pv1, pc1, gv1, dn1, wo1, pp1, yo1, tr1, tg1, nb1, sy1, rg1, ce1, wh1, wt1, wi1, xon1, xgu1, ygu1, xtr1, r1, r2, r3, r4, r5, -, r7, r8, r9⟩ := pr_cycle (gi := gi) (yts := yts) (tr := tr) (tg := tg) (bu := bu) (xga := xga) (xto := xto) (xlf := xlf) (xrt := xrt) (xlv := xlv) (yga := yga) (yone := yone) (ytwo := ytwo) (ylv := ylv) 1 (Or.inr rfl) hM hF hwd hO hV hQ hP hC hc
    obtain ⟨r6, r10⟩ := r7 rfl
    have hn1 := r1.2.2.2.2
    by_cases z : wk1 = 0
    · refine ⟨c + 1, wk1, nx1, gi1, yts1, nm1, ct1, xdn1, xsn1, xpr1, xcl1, vl1, pv1, pc1, gv1, dn1, wo1, pp1, yo1, tr1, tg1, nb1, sy1, rg1, ce1, wh1, wt1, wi1, xon1, xgu1, ygu1, xtr1, r1, r2, r3, r4, r5, r6, z, fun poss hp => ?_, fun poss hp => ?_⟩
      · rw [wX_drain_22]
        refine r8 _ ?_
        intro w ew
        rw [ew, nI_1]
        refine xq_isEmpty hst.2.1 r1 (by omega) (fun _ => ?_) (fun q => absurd z q)
        refine br_f (by decide) (fun y ey => ?_)
        rw [show y = nI nx1 by rw [ey, ar_Nap]; exact congrArg nI (by omega)]
        exact hp
      · rw [wY_drain_11]
        refine br_f (nI_nle h0 (by omega)) ?_
        refine r9 _ ?_
        intro w ew
        rw [ew, nI_1]
        rw [wY_drain_11]
        refine br_t (by rw [z]; decide) ?_
        exact hp
    · have IH := ih (c + 1) wk1 nx1 gi1 yts1 nm1 ct1 xdn1 xsn1 xpr1 xcl1 vl1 pv1 pc1 gv1 dn1 wo1 pp1 yo1 tr1 tg1 nb1 sy1 rg1 ce1 wh1 wt1 wi1 xon1 xgu1 ygu1 xtr1 r1 r2 r3 r4 r5 (by omega) (by omega) ?_
      · obtain ⟨e, wk', nx', gi', yts', nm', ct', xdn', xsn', xpr', xcl', vl', pv', pc', gv', dn', wo', pp', yo', tr', tg', nb', sy', rg', ce', wh', wt', wi', xon', xgu', ygu', xtr', i1, i2, i3, i4, i5, i6, i7, i8, i9⟩ := IH
        refine ⟨e, wk', nx', gi', yts', nm', ct', xdn', xsn', xpr', xcl', vl', pv', pc', gv', dn', wo', pp', yo', tr', tg', nb', sy', rg', ce', wh', wt', wi', xon', xgu', ygu', xtr', i1, i2, i3, i4, i5, by omega, i7, fun poss hp => ?_, fun poss hp => ?_⟩
        · rw [wX_drain_22]
          refine r8 _ ?_
          intro w ew
          rw [ew, nI_1]
          refine xq_isEmpty hst.2.1 r1 (by omega) (fun q => absurd q z) (fun _ => ?_)
          refine br_t rfl ?_
          exact i8 poss hp
        · rw [wY_drain_11]
          refine br_f (nI_nle h0 (by omega)) ?_
          refine r9 _ ?_
          intro w ew
          rw [ew, nI_1]
          exact i9 poss hp
      · rcases r10 h0 with q | ⟨q1, q2⟩
        · omega
        · rw [q1, q2]; omega
end
end
section
/-! the relation -/
def re_R (k : Nat) (st nd bu nx wk gi ad : Nat) (xad xga xto yad yts yga : Int32) (kd sb tc sg wd fa ww so rg ce nm xdn xsn xpr xcl ct nb sy vl pv pc gv dn wo pp yo wh wt wi tr tg cd ws : Nat → Nat) (gs xcd xws xon xgu xlf xrt xlv ybs ycs ywd ycd yws ygu yone ytwo ylv : Nat → Int32) (xtr : Nat → Int64) : Prop := re_M st nd kd fa sb tc sg wd ww so cd ws ad gs xcd xws ycd yws ybs ycs xad yad ∧ ((bu = 0 ∧ wk = 0) ∨ (bu = 1 ∧ re_F st nd kd fa sb tc sg wd ww so cd ws ad gs ∧ ∀ n, n < nd → ywd n = nI (wd n))) ∧ re_O st wk nx (ct 1) nm nb sy ∧ re_V nd wk kd fa sg wd sy gs xgu ygu xdn dn xsn vl wo gv ∧ re_Q wk ww sy xon xpr xcl pv pc pp yo ∧ re_P wk so ws sy dn pp ∧ re_C ww rg ce ct wh wt wi xtr ∧ (∀ i, i < 50 → xlv i = 0) ∧ nx ≤ 20 * k
def i_Rel (k : Nat) (u : SX) (v : SY) : Prop := ∃ (st nd bu nx wk gi ad : Nat) (xad xga xto yad yts yga : Int32) (kd sb tc sg wd fa ww so rg ce nm xdn xsn xpr xcl ct nb sy vl pv pc gv dn wo pp yo wh wt wi tr tg cd ws : Nat → Nat) (gs xcd xws xon xgu xlf xrt xlv ybs ycs ywd ycd yws ygu yone ytwo ylv : Nat → Int32) (xtr : Nat → Int64), u = (nI st, nI nd, nI bu, xad, nI nx, xga, xto, ar_N kd, ar_N sb, ar_N tc, ar_N sg, ar_N wd, ar_N fa, ar_N ww, gs, ar_O so, xcd, xws, ar_N rg, ar_N ce, ar_O nm, xon, xgu, ar_N xdn, ar_N xsn, ar_N xpr, ar_N xcl, xtr, ar_N ct, xlf, xrt, xlv) ∧ v = (nI st, nI nd, nI bu, yad, nI wk, nI nx, nI (ct 1), nI (ct 0), nI (ct 2), nI (ct 3), nI (ct 4), nI (ct 5), nI (ct 6), nI (ct 7), yts, nI gi, yga, ar_N ww, ar_N rg, ar_N ce, gs, ar_N kd, ar_N fa, ybs, ycs, ar_N sg, ywd, ar_O so, ycd, yws, ar_N nb, ar_N sy, ar_N vl, ar_N pv, ar_N pc, ygu, ar_N gv, ar_N dn, ar_N wo, ar_N pp, ar_N yo, ar_N wh, ar_N wt, ar_N wi, ar_N tr, ar_N tg, yone, ytwo, ylv) ∧ re_R k st nd bu nx wk gi ad xad xga xto yad yts yga kd sb tc sg wd fa ww so rg ce nm xdn xsn xpr xcl ct nb sy vl pv pc gv dn wo pp yo wh wt wi tr tg cd ws gs xcd xws xon xgu xlf xrt xlv ybs ycs ywd ycd yws ygu yone ytwo ylv xtr
theorem re_el {P : SX → SY → Prop} {k : Nat} (h : ∀ (st nd bu nx wk gi ad : Nat) (xad xga xto yad yts yga : Int32) (kd sb tc sg wd fa ww so rg ce nm xdn xsn xpr xcl ct nb sy vl pv pc gv dn wo pp yo wh wt wi tr tg cd ws : Nat → Nat) (gs xcd xws xon xgu xlf xrt xlv ybs ycs ywd ycd yws ygu yone ytwo ylv : Nat → Int32) (xtr : Nat → Int64), re_R k st nd bu nx wk gi ad xad xga xto yad yts yga kd sb tc sg wd fa ww so rg ce nm xdn xsn xpr xcl ct nb sy vl pv pc gv dn wo pp yo wh wt wi tr tg cd ws gs xcd xws xon xgu xlf xrt xlv ybs ycs ywd ycd yws ygu yone ytwo ylv xtr → P (nI st, nI nd, nI bu, xad, nI nx, xga, xto, ar_N kd, ar_N sb, ar_N tc, ar_N sg, ar_N wd, ar_N fa, ar_N ww, gs, ar_O so, xcd, xws, ar_N rg, ar_N ce, ar_O nm, xon, xgu, ar_N xdn, ar_N xsn, ar_N xpr, ar_N xcl, xtr, ar_N ct, xlf, xrt, xlv) (nI st, nI nd, nI bu, yad, nI wk, nI nx, nI (ct 1), nI (ct 0), nI (ct 2), nI (ct 3), nI (ct 4), nI (ct 5), nI (ct 6), nI (ct 7), yts, nI gi, yga, ar_N ww, ar_N rg, ar_N ce, gs, ar_N kd, ar_N fa, ybs, ycs, ar_N sg, ywd, ar_O so, ycd, yws, ar_N nb, ar_N sy, ar_N vl, ar_N pv, ar_N pc, ygu, ar_N gv, ar_N dn, ar_N wo, ar_N pp, ar_N yo, ar_N wh, ar_N wt, ar_N wi, ar_N tr, ar_N tg, yone, ytwo, ylv)) {u : SX} {v : SY} (I : i_Rel k u v) : P u v :=
  Exists.elim I fun st I => Exists.elim I fun nd I => Exists.elim I fun bu I => Exists.elim I fun nx I => Exists.elim I fun wk I => Exists.elim I fun gi I => Exists.elim I fun ad I => Exists.elim I fun xad I => Exists.elim I fun xga I => Exists.elim I fun xto I => Exists.elim I fun yad I => Exists.elim I fun yts I => Exists.elim I fun yga I => Exists.elim I fun kd I => Exists.elim I fun sb I => Exists.elim I fun tc I => Exists.elim I fun sg I => Exists.elim I fun wd I => Exists.elim I fun fa I => Exists.elim I fun ww I => Exists.elim I fun so I => Exists.elim I fun rg I => Exists.elim I fun ce I => Exists.elim I fun nm I => Exists.elim I fun xdn I => Exists.elim I fun xsn I => Exists.elim I fun xpr I => Exists.elim I fun xcl I => Exists.elim I fun ct I => Exists.elim I fun nb I => Exists.elim I fun sy I => Exists.elim I fun vl I => Exists.elim I fun pv I => Exists.elim I fun pc I => Exists.elim I fun gv I => Exists.elim I fun dn I => Exists.elim I fun wo I => Exists.elim I fun pp I => Exists.elim I fun yo I => Exists.elim I fun wh I => Exists.elim I fun wt I => Exists.elim I fun wi I => Exists.elim I fun tr I => Exists.elim I fun tg I => Exists.elim I fun cd I => Exists.elim I fun ws I => Exists.elim I fun gs I => Exists.elim I fun xcd I => Exists.elim I fun xws I => Exists.elim I fun xon I => Exists.elim I fun xgu I => Exists.elim I fun xlf I => Exists.elim I fun xrt I => Exists.elim I fun xlv I => Exists.elim I fun ybs I => Exists.elim I fun ycs I => Exists.elim I fun ywd I => Exists.elim I fun ycd I => Exists.elim I fun yws I => Exists.elim I fun ygu I => Exists.elim I fun yone I => Exists.elim I fun ytwo I => Exists.elim I fun ylv I => Exists.elim I fun xtr I => by
    rw [I.1, I.2.1]
    exact h st nd bu nx wk gi ad xad xga xto yad yts yga kd sb tc sg wd fa ww so rg ce nm xdn xsn xpr xcl ct nb sy vl pv pc gv dn wo pp yo wh wt wi tr tg cd ws gs xcd xws xon xgu xlf xrt xlv ybs ycs ywd ycd yws ygu yone ytwo ylv xtr I.2.2
theorem re_mk {k : Nat} (st nd bu nx wk gi ad : Nat) (xad xga xto yad yts yga : Int32) (kd sb tc sg wd fa ww so rg ce nm xdn xsn xpr xcl ct nb sy vl pv pc gv dn wo pp yo wh wt wi tr tg cd ws : Nat → Nat) (gs xcd xws xon xgu xlf xrt xlv ybs ycs ywd ycd yws ygu yone ytwo ylv : Nat → Int32) (xtr : Nat → Int64) (h : re_R k st nd bu nx wk gi ad xad xga xto yad yts yga kd sb tc sg wd fa ww so rg ce nm xdn xsn xpr xcl ct nb sy vl pv pc gv dn wo pp yo wh wt wi tr tg cd ws gs xcd xws xon xgu xlf xrt xlv ybs ycs ywd ycd yws ygu yone ytwo ylv xtr) : i_Rel k (nI st, nI nd, nI bu, xad, nI nx, xga, xto, ar_N kd, ar_N sb, ar_N tc, ar_N sg, ar_N wd, ar_N fa, ar_N ww, gs, ar_O so, xcd, xws, ar_N rg, ar_N ce, ar_O nm, xon, xgu, ar_N xdn, ar_N xsn, ar_N xpr, ar_N xcl, xtr, ar_N ct, xlf, xrt, xlv) (nI st, nI nd, nI bu, yad, nI wk, nI nx, nI (ct 1), nI (ct 0), nI (ct 2), nI (ct 3), nI (ct 4), nI (ct 5), nI (ct 6), nI (ct 7), yts, nI gi, yga, ar_N ww, ar_N rg, ar_N ce, gs, ar_N kd, ar_N fa, ybs, ycs, ar_N sg, ywd, ar_O so, ycd, yws, ar_N nb, ar_N sy, ar_N vl, ar_N pv, ar_N pc, ygu, ar_N gv, ar_N dn, ar_N wo, ar_N pp, ar_N yo, ar_N wh, ar_N wt, ar_N wi, ar_N tr, ar_N tg, yone, ytwo, ylv) := Exists.intro st (Exists.intro nd (Exists.intro bu (Exists.intro nx (Exists.intro wk (Exists.intro gi (Exists.intro ad (Exists.intro xad (Exists.intro xga (Exists.intro xto (Exists.intro yad (Exists.intro yts (Exists.intro yga (Exists.intro kd (Exists.intro sb (Exists.intro tc (Exists.intro sg (Exists.intro wd (Exists.intro fa (Exists.intro ww (Exists.intro so (Exists.intro rg (Exists.intro ce (Exists.intro nm (Exists.intro xdn (Exists.intro xsn (Exists.intro xpr (Exists.intro xcl (Exists.intro ct (Exists.intro nb (Exists.intro sy (Exists.intro vl (Exists.intro pv (Exists.intro pc (Exists.intro gv (Exists.intro dn (Exists.intro wo (Exists.intro pp (Exists.intro yo (Exists.intro wh (Exists.intro wt (Exists.intro wi (Exists.intro tr (Exists.intro tg (Exists.intro cd (Exists.intro ws (Exists.intro gs (Exists.intro xcd (Exists.intro xws (Exists.intro xon (Exists.intro xgu (Exists.intro xlf (Exists.intro xrt (Exists.intro xlv (Exists.intro ybs (Exists.intro ycs (Exists.intro ywd (Exists.intro ycd (Exists.intro yws (Exists.intro ygu (Exists.intro yone (Exists.intro ytwo (Exists.intro ylv (Exists.intro xtr (⟨rfl, rfl, h⟩))))))))))))))))))))))))))))))))))))))))))))))))))))))))))))))))
section
variable {st nd bu nx wk kc1 kc0 kc2 kc3 kc4 kc5 kc6 kc7 gi ad : Nat} {xad xga xto yad yts yga : Int32} {kd sb tc sg wd fa ww so rg ce nm xdn xsn xpr xcl ct nb sy vl pv pc gv dn wo pp yo wh wt wi tr tg cd ws : Nat → Nat} {gs xcd xws xon xgu xlf xrt xlv ybs ycs ywd ycd yws ygu yone ytwo ylv : Nat → Int32} {xtr : Nat → Int64}
theorem re_up {k k' : Nat} (hk : k ≤ k') (h : re_R k st nd bu nx wk gi ad xad xga xto yad yts yga kd sb tc sg wd fa ww so rg ce nm xdn xsn xpr xcl ct nb sy vl pv pc gv dn wo pp yo wh wt wi tr tg cd ws gs xcd xws xon xgu xlf xrt xlv ybs ycs ywd ycd yws ygu yone ytwo ylv xtr) : re_R k' st nd bu nx wk gi ad xad xga xto yad yts yga kd sb tc sg wd fa ww so rg ce nm xdn xsn xpr xcl ct nb sy vl pv pc gv dn wo pp yo wh wt wi tr tg cd ws gs xcd xws xon xgu xlf xrt xlv ybs ycs ywd ycd yws ygu yone ytwo ylv xtr := by
  obtain ⟨h1, h2, h3, h4, h5, h6, h7, h8, h9⟩ := h
  exact ⟨h1, h2, h3, h4, h5, h6, h7, h8, by omega⟩
theorem re_in {k : Nat} (h : re_R k st nd bu nx wk gi ad xad xga xto yad yts yga kd sb tc sg wd fa ww so rg ce nm xdn xsn xpr xcl ct nb sy vl pv pc gv dn wo pp yo wh wt wi tr tg cd ws gs xcd xws xon xgu xlf xrt xlv ybs ycs ywd ycd yws ygu yone ytwo ylv xtr) : i_Rel k (nI st, nI nd, nI bu, xad, nI nx, xga, xto, ar_N kd, ar_N sb, ar_N tc, ar_N sg, ar_N wd, ar_N fa, ar_N ww, gs, ar_O so, xcd, xws, ar_N rg, ar_N ce, ar_O nm, xon, xgu, ar_N xdn, ar_N xsn, ar_N xpr, ar_N xcl, xtr, ar_N ct, xlf, xrt, xlv) (nI st, nI nd, nI bu, yad, nI wk, nI nx, nI (ct 1), nI (ct 0), nI (ct 2), nI (ct 3), nI (ct 4), nI (ct 5), nI (ct 6), nI (ct 7), yts, nI gi, yga, ar_N ww, ar_N rg, ar_N ce, gs, ar_N kd, ar_N fa, ybs, ycs, ar_N sg, ywd, ar_O so, ycd, yws, ar_N nb, ar_N sy, ar_N vl, ar_N pv, ar_N pc, ygu, ar_N gv, ar_N dn, ar_N wo, ar_N pp, ar_N yo, ar_N wh, ar_N wt, ar_N wi, ar_N tr, ar_N tg, yone, ytwo, ylv) := re_mk st nd bu nx wk gi ad xad xga xto yad yts yga kd sb tc sg wd fa ww so rg ce nm xdn xsn xpr xcl ct nb sy vl pv pc gv dn wo pp yo wh wt wi tr tg cd ws gs xcd xws xon xgu xlf xrt xlv ybs ycs ywd ycd yws ygu yone ytwo ylv xtr h
end
theorem i_up {k : Nat} {u : SX} {v : SY} (h : i_Rel k u v) : i_Rel (k + 6) u v := by
  refine re_el (P := fun u v => i_Rel (k + 6) u v) ?_ h
  intro st nd bu nx wk gi ad xad xga xto yad yts yga kd sb tc sg wd fa ww so rg ce nm xdn xsn xpr xcl ct nb sy vl pv pc gv dn wo pp yo wh wt wi tr tg cd ws gs xcd xws xon xgu xlf xrt xlv ybs ycs ywd ycd yws ygu yone ytwo ylv xtr hR
  exact re_in (re_up (by omega) hR)
end
section
/-! questions -/
section
variable {st nd bu nx wk kc1 kc0 kc2 kc3 kc4 kc5 kc6 kc7 gi ad : Nat} {xad xga xto yad yts yga : Int32} {kd sb tc sg wd fa ww so rg ce nm xdn xsn xpr xcl ct nb sy vl pv pc gv dn wo pp yo wh wt wi tr tg cd ws : Nat → Nat} {gs xcd xws xon xgu xlf xrt xlv ybs ycs ywd ycd yws ygu yone ytwo ylv : Nat → Int32} {xtr : Nat → Int64}
variable {post : Int32 → Prop}
theorem xq_in1T {p n : Nat} {hi : Int32} (hn : n < 2 ^ 31) (h : p < n) (hp : post 1) (hh : hi = nI n - 1 := by rfl) : wpX_in post (nI p) 0 hi := by
  refine xq_inT (nI_pos (by omega)) ?_ hp
  rw [hh, show nI n - 1 = ar_i n from ar_sub1 n, ar_ilt (by omega) (by omega)]
  omega
theorem xq_in1F {x : Int32} {n : Nat} {hi : Int32} (hn : n < 2 ^ 31) (h : x < 0 ∨ nI n ≤ x) (hp : post 0) (hh : hi = nI n - 1 := by rfl) : wpX_in post x 0 hi := by
  refine xq_inF ?_ hp
  rcases h with h | h
  · exact Or.inl h
  · refine Or.inr ?_
    rw [hh, show nI n - 1 = ar_i n from ar_sub1 n]
    rw [Int32.le_iff_toInt_le, nI_toInt hn] at h
    rw [Int32.lt_iff_toInt_lt, ar_iT (by omega)]
    omega
theorem yq_inStage {s : Nat} (hs : s < 5) (hst : st ≤ 5) (hO : re_O st wk nx (ct 1) nm nb sy) (h1 : ∀ x, x < wk → sy x = s → post (nI x)) (h0 : (∀ x, x < wk → sy x ≠ s) → post (-3)) : wpY_inStage post (nI st, nI nd, nI bu, yad, nI wk, nI nx, nI (ct 1), nI (ct 0), nI (ct 2), nI (ct 3), nI (ct 4), nI (ct 5), nI (ct 6), nI (ct 7), yts, nI gi, yga, ar_N ww, ar_N rg, ar_N ce, gs, ar_N kd, ar_N fa, ybs, ycs, ar_N sg, ywd, ar_O so, ycd, yws, ar_N nb, ar_N sy, ar_N vl, ar_N pv, ar_N pc, ygu, ar_N gv, ar_N dn, ar_N wo, ar_N pp, ar_N yo, ar_N wh, ar_N wt, ar_N wi, ar_N tr, ar_N tg, yone, ytwo, ylv) (nI s) := by
  have hwk := re_wk hO
  have main : ∀ d x, x + d = wk → (∀ y, y < x → sy y ≠ s) → wY_inStage_2 post (nI s) (nI st) (nI nd) (nI bu) yad (nI wk) (nI nx) (nI (ct 1)) (nI (ct 0)) (nI (ct 2)) (nI (ct 3)) (nI (ct 4)) (nI (ct 5)) (nI (ct 6)) (nI (ct 7)) yts (nI gi) yga (ar_N ww) (ar_N rg) (ar_N ce) gs (ar_N kd) (ar_N fa) ybs ycs (ar_N sg) ywd (ar_O so) ycd yws (ar_N nb) (ar_N sy) (ar_N vl) (ar_N pv) (ar_N pc) ygu (ar_N gv) (ar_N dn) (ar_N wo) (ar_N pp) (ar_N yo) (ar_N wh) (ar_N wt) (ar_N wi) (ar_N tr) (ar_N tg) yone ytwo ylv (d + 1) (nI x) := by
    intro d
    induction d with
    | zero =>
      intro x hx hz
      rw [wY_inStage_2]
      exact br_t (nI_le (by omega) (by omega)) (h0 (fun y hy => hz y (by omega)))
    | succ d ih =>
      intro x hx hz
      have := hO.1 x (by omega)
      rw [wY_inStage_2]
      refine br_f (nI_ge (by omega) (by omega)) ⟨vp_in_nI (by omega) (by omega), ?_⟩
      rw [nI_clamp (by omega), ar_Nap]
      refine pk_eq (sy x) s (fun e => h1 x (by omega) e) (fun e y ey => ?_)
      rw [ey, nI_1]
      refine ih (x + 1) (by omega) (fun y hy => ?_)
      by_cases q : y = x
      · rw [q]; exact e
      · exact hz y (by omega)
  exact ⟨wk + 1, main wk 0 (by omega) (fun y hy => absurd hy (by omega))⟩
end
theorem i_vc_value {k : Nat} {u : SX} {v : SY} (I : i_Rel k u v) (hk : k + 6 ≤ 3072) (v1 : Int32) : wpX_value (fun r => wpY_value (fun r' => r' = r ∧ i_Rel (k + 6) u v) v v1) u v1 := by
  have J := i_up I
  revert J
  generalize i_Rel (k + 6) u v = J0
  intro J
  refine re_el (P := fun u v => wpX_value (fun r => wpY_value (fun r' => r' = r ∧ J0) v v1) u v1) ?_ I
  intro st nd bu nx wk gi ad xad xga xto yad yts yga kd sb tc sg wd fa ww so rg ce nm xdn xsn xpr xcl ct nb sy vl pv pc gv dn wo pp yo wh wt wi tr tg cd ws gs xcd xws xon xgu xlf xrt xlv ybs ycs ywd ycd yws ygu yone ytwo ylv xtr hR
  unfold wpX_value wpY_value
  dsimp only
  rcases pk_ix v1 (n := 6) (by omega) with h | h | ⟨j, h, rfl⟩
  · exact xq_isRegF (Or.inl h) (br_t rfl (yq_inF (Or.inl h) (br_t rfl ⟨rfl, J⟩)))
  · exact xq_isRegF (Or.inr h) (br_t rfl (yq_inF (Or.inr h) (br_t rfl ⟨rfl, J⟩)))
  · have b := vp_in_nI h (show 6 < 2 ^ 31 by omega)
    exact xq_isRegT h (br_f (by decide) ⟨b, yq_in (b := 6) (by omega) h (br_f (by decide) ⟨b, rfl, J⟩)⟩)
theorem i_vc_memory {k : Nat} {u : SX} {v : SY} (I : i_Rel k u v) (hk : k + 6 ≤ 3072) (v1 : Int32) : wpX_memory (fun r => wpY_memory (fun r' => r' = r ∧ i_Rel (k + 6) u v) v v1) u v1 := by
  have J := i_up I
  revert J
  generalize i_Rel (k + 6) u v = J0
  intro J
  refine re_el (P := fun u v => wpX_memory (fun r => wpY_memory (fun r' => r' = r ∧ J0) v v1) u v1) ?_ I
  intro st nd bu nx wk gi ad xad xga xto yad yts yga kd sb tc sg wd fa ww so rg ce nm xdn xsn xpr xcl ct nb sy vl pv pc gv dn wo pp yo wh wt wi tr tg cd ws gs xcd xws xon xgu xlf xrt xlv ybs ycs ywd ycd yws ygu yone ytwo ylv xtr hR
  unfold wpX_memory wpY_memory
  dsimp only
  rcases pk_ix v1 (n := 16) (by omega) with h | h | ⟨j, h, rfl⟩
  · exact xq_in1F (n := 16) (by omega) (Or.inl h) (br_t rfl (yq_inF (Or.inl h) (br_t rfl ⟨rfl, J⟩)))
  · exact xq_in1F (n := 16) (by omega) (Or.inr h) (br_t rfl (yq_inF (Or.inr h) (br_t rfl ⟨rfl, J⟩)))
  · have b := vp_in_nI h (show 16 < 2 ^ 31 by omega)
    exact xq_in1T (n := 16) (by omega) h (br_f (by decide) ⟨b, yq_in (b := 16) (by omega) h (br_f (by decide) ⟨b, rfl, J⟩)⟩)
theorem i_vc_count {k : Nat} {u : SX} {v : SY} (I : i_Rel k u v) (hk : k + 6 ≤ 3072) (v1 : Int32) : wpX_count (fun r => wpY_count (fun r' => r' = r ∧ i_Rel (k + 6) u v) v v1) u v1 := by
  have J := i_up I
  revert J
  generalize i_Rel (k + 6) u v = J0
  intro J
  refine re_el (P := fun u v => wpX_count (fun r => wpY_count (fun r' => r' = r ∧ J0) v v1) u v1) ?_ I
  intro st nd bu nx wk gi ad xad xga xto yad yts yga kd sb tc sg wd fa ww so rg ce nm xdn xsn xpr xcl ct nb sy vl pv pc gv dn wo pp yo wh wt wi tr tg cd ws gs xcd xws xon xgu xlf xrt xlv ybs ycs ywd ycd yws ygu yone ytwo ylv xtr hR
  unfold wpX_count wpY_count
  dsimp only
  rcases pk_ix v1 (n := 8) (by omega) with h | h | ⟨j, h, rfl⟩
  · exact xq_in1F (n := 8) (by omega) (Or.inl h) (br_t rfl (br_t h ⟨rfl, J⟩))
  · have h7 : (7 : Int32) < v1 := by
      rw [Int32.le_iff_toInt_le, nI_toInt (by omega)] at h
      rw [Int32.lt_iff_toInt_lt, show (7 : Int32).toInt = 7 from rfl]
      omega
    have h0 : ¬ v1 < 0 := by
      rw [Int32.lt_iff_toInt_lt, show (7 : Int32).toInt = 7 from rfl] at h7
      rw [Int32.lt_iff_toInt_lt, show (0 : Int32).toInt = 0 from rfl]
      omega
    exact xq_in1F (n := 8) (by omega) (Or.inr h) (br_t rfl (br_f h0 (br_t h7 ⟨rfl, J⟩)))
  · have b := vp_in_nI h (show 8 < 2 ^ 31 by omega)
    refine xq_in1T (n := 8) (by omega) h (br_f (by decide) ⟨b, ?_⟩)
    have : j = 0 ∨ j = 1 ∨ j = 2 ∨ j = 3 ∨ j = 4 ∨ j = 5 ∨ j = 6 ∨ j = 7 := by omega
    refine br_f (nI_pos (by omega)) (br_f (nI_nlt (a := 7) (by omega) (by omega)) ?_)
    rcases this with e | e | e | e | e | e | e | e <;> subst e
    · exact br_t rfl ⟨rfl, J⟩
    · exact br_f (by decide) (br_t rfl ⟨rfl, J⟩)
    · exact br_f (by decide) (br_f (by decide) (br_t rfl ⟨rfl, J⟩))
    · exact br_f (by decide) (br_f (by decide) (br_f (by decide) (br_t rfl ⟨rfl, J⟩)))
    · exact br_f (by decide) (br_f (by decide) (br_f (by decide) (br_f (by decide) (br_t rfl ⟨rfl, J⟩))))
    · exact br_f (by decide) (br_f (by decide) (br_f (by decide) (br_f (by decide) (br_f (by decide) (br_t rfl ⟨rfl, J⟩)))))
    · exact br_f (by decide) (br_f (by decide) (br_f (by decide) (br_f (by decide) (br_f (by decide) (br_f (by decide) (br_t rfl ⟨rfl, J⟩))))))
    · exact br_f (by decide) (br_f (by decide) (br_f (by decide) (br_f (by decide) (br_f (by decide) (br_f (by decide) (br_f (by decide) (br_t rfl ⟨rfl, J⟩)))))))
theorem i_vc_at {k : Nat} {u : SX} {v : SY} (I : i_Rel k u v) (hk : k + 6 ≤ 3072) (v1 : Int32) (v2 : Int32) : wpX_at (fun r => wpY_at (fun r' => r' = r ∧ i_Rel (k + 6) u v) v v1 v2) u v1 v2 := by
  have J := i_up I
  revert J
  generalize i_Rel (k + 6) u v = J0
  intro J
  refine re_el (P := fun u v => wpX_at (fun r => wpY_at (fun r' => r' = r ∧ J0) v v1 v2) u v1 v2) ?_ I
  intro st nd bu nx wk gi ad xad xga xto yad yts yga kd sb tc sg wd fa ww so rg ce nm xdn xsn xpr xcl ct nb sy vl pv pc gv dn wo pp yo wh wt wi tr tg cd ws gs xcd xws xon xgu xlf xrt xlv ybs ycs ywd ycd yws ygu yone ytwo ylv xtr hR
  unfold wpX_at
  dsimp only
  obtain ⟨hM, hB, hO, hV, hQ, hP, hC, hL, hk20⟩ := hR
  have hst := hM.1
  have hwk := re_wk hO
  have hn := hO.2.2.2.2
  rcases pk_ix v1 (n := st) (by omega) with h | h | ⟨s, h, rfl⟩
  · refine xq_in1F (n := st) (by omega) (Or.inl h) (br_t rfl ?_)
    unfold wpY_at
    dsimp only
    exact yq_inF (Or.inl h) (br_t rfl ⟨rfl, J⟩)
  · refine xq_in1F (n := st) (by omega) (Or.inr h) (br_t rfl ?_)
    unfold wpY_at
    dsimp only
    exact yq_inF (Or.inr h) (br_t rfl ⟨rfl, J⟩)
  have b := vp_in_nI (show s < 5 by omega) (show 5 < 2 ^ 31 by omega)
  have hb := re_nmb hO (by omega) s
  refine xq_in1T (n := st) (by omega) h (br_f (by decide) ?_)
  rcases pk_ix v2 (n := 3) (by omega) with h2 | h2 | ⟨w, h2, rfl⟩
  · refine xq_in1F (n := 3) (by omega) (Or.inl h2) (br_t rfl ?_)
    unfold wpY_at
    dsimp only
    exact yq_in (by omega) h (br_f (by decide) (yq_inF (Or.inl h2) (br_t rfl ⟨rfl, J⟩)))
  · refine xq_in1F (n := 3) (by omega) (Or.inr h2) (br_t rfl ?_)
    unfold wpY_at
    dsimp only
    exact yq_in (by omega) h (br_f (by decide) (yq_inF (Or.inr h2) (br_t rfl ⟨rfl, J⟩)))
  refine xq_in1T (n := 3) (by omega) h2 (br_f (by decide) ⟨b, ?_⟩)
  rw [nI_clamp (by omega), ar_Oap]
  by_cases z : nm s = 0
  · refine br_f (by rw [z]; decide) ?_
    unfold wpY_at
    dsimp only
    refine yq_in (by omega) h (br_f (by decide) (yq_in (b := 3) (by omega) h2 (br_f (by decide) ?_)))
    refine yq_inStage (by omega) hst.2.1 hO (fun x hx e => ?_) (fun _ => br_f (by decide) ⟨rfl, J⟩)
    have := re_nmn hO hx
    rw [e] at this
    exact absurd z this
  · obtain ⟨x, hx, rfl⟩ := (re_who hO (s := s) (by omega)).resolve_left z
    obtain ⟨o1, o2⟩ := hO.2.2.1 x hx
    obtain ⟨d1, d2, d3, d4⟩ := hV.1 x hx
    have b2 := vp_in_nI (show x < 5 by omega) (show 5 < 2 ^ 31 by omega)
    refine br_t (by rw [show (0 : Int32) = nI 0 from rfl, ar_lei hb (by omega)]; omega) ?_
    have Y : ∀ post : Int32 → Prop, (((nI w = 0 → (vp_in (nI x) 5 ∧ (post (nI (nb x))))) ∧ (¬ nI w = 0 → (((nI w = 1 → (vp_in (nI x) 5 ∧ (((nI (dn x) = 0 → (post 0)) ∧ (¬ nI (dn x) = 0 → (post 1)))))) ∧ (¬ nI w = 1 → (vp_in (nI x) 5 ∧ (post (ygu x))))))))) → wpY_at post (nI st, nI nd, nI bu, yad, nI wk, nI nx, nI (ct 1), nI (ct 0), nI (ct 2), nI (ct 3), nI (ct 4), nI (ct 5), nI (ct 6), nI (ct 7), yts, nI gi, yga, ar_N ww, ar_N rg, ar_N ce, gs, ar_N kd, ar_N fa, ybs, ycs, ar_N sg, ywd, ar_O so, ycd, yws, ar_N nb, ar_N sy, ar_N vl, ar_N pv, ar_N pc, ygu, ar_N gv, ar_N dn, ar_N wo, ar_N pp, ar_N yo, ar_N wh, ar_N wt, ar_N wi, ar_N tr, ar_N tg, yone, ytwo, ylv) (nI (sy x)) (nI w) := by
      intro post hp
      unfold wpY_at
      dsimp only
      refine yq_in (by omega) h (br_f (by decide) (yq_in (b := 3) (by omega) h2 (br_f (by decide) ?_)))
      refine yq_inStage (by omega) hst.2.1 hO (fun y hy e => ?_) (fun q => absurd rfl (q x hx))
      have e2 := re_inj hO hy hx e
      subst e2
      refine br_t (nI_pos' (by omega)) ?_
      rw [nI_clamp (by omega)]
      exact hp
    refine br_c (fun w0 => ⟨b, ?_⟩) (fun w0 => br_c (fun w1 => ⟨b, ?_⟩) (fun w1 => ⟨b, ?_⟩))
    · rw [o1, ar_is]
      exact Y _ (br_t w0 ⟨b2, rfl, J⟩)
    · rw [ar_Nap, d1]
      refine br_c (fun q => ?_) (fun q => ?_)
      · exact Y _ (br_f w0 (br_t w1 ⟨b2, br_t q ⟨rfl, J⟩⟩))
      · exact Y _ (br_f w0 (br_t w1 ⟨b2, br_f q ⟨rfl, J⟩⟩))
    · rw [d3]
      exact Y _ (br_f w0 (br_f w1 ⟨b2, rfl, J⟩))
theorem i_vc_seen {k : Nat} {u : SX} {v : SY} (I : i_Rel k u v) (hk : k + 6 ≤ 3072) (v1 : Int32) (v2 : Int32) : wpX_seen (fun r => wpY_seen (fun r' => r' = r ∧ i_Rel (k + 6) u v) v v1 v2) u v1 v2 := by
  have J := i_up I
  revert J
  generalize i_Rel (k + 6) u v = J0
  intro J
  refine re_el (P := fun u v => wpX_seen (fun r => wpY_seen (fun r' => r' = r ∧ J0) v v1 v2) u v1 v2) ?_ I
  intro st nd bu nx wk gi ad xad xga xto yad yts yga kd sb tc sg wd fa ww so rg ce nm xdn xsn xpr xcl ct nb sy vl pv pc gv dn wo pp yo wh wt wi tr tg cd ws gs xcd xws xon xgu xlf xrt xlv ybs ycs ywd ycd yws ygu yone ytwo ylv xtr hR
  unfold wpX_seen
  dsimp only
  obtain ⟨hM, hB, hO, hV, hQ, hP, hC, hL, hk20⟩ := hR
  have hst := hM.1
  have hwk := re_wk hO
  have hn := hO.2.2.2.2
  rcases pk_ix v1 (n := st) (by omega) with h | h | ⟨s, h, rfl⟩
  · refine xq_in1F (n := st) (by omega) (Or.inl h) (br_t rfl ?_)
    unfold wpY_seen
    dsimp only
    exact yq_inF (Or.inl h) (br_t rfl ⟨rfl, J⟩)
  · refine xq_in1F (n := st) (by omega) (Or.inr h) (br_t rfl ?_)
    unfold wpY_seen
    dsimp only
    exact yq_inF (Or.inr h) (br_t rfl ⟨rfl, J⟩)
  have b := vp_in_nI (show s < 5 by omega) (show 5 < 2 ^ 31 by omega)
  have hb := re_nmb hO (by omega) s
  refine xq_in1T (n := st) (by omega) h (br_f (by decide) ?_)
  rcases pk_ix v2 (n := nd) (by omega) with h2 | h2 | ⟨n, h2, rfl⟩
  · refine xq_isNodeF hst.2.2 (Or.inl h2) (br_t rfl ?_)
    unfold wpY_seen
    dsimp only
    exact yq_in (by omega) h (br_f (by decide) (yq_inF (Or.inl h2) (br_t rfl ⟨rfl, J⟩)))
  · refine xq_isNodeF hst.2.2 (Or.inr h2) (br_t rfl ?_)
    unfold wpY_seen
    dsimp only
    exact yq_in (by omega) h (br_f (by decide) (yq_inF (Or.inr h2) (br_t rfl ⟨rfl, J⟩)))
  have bn := vp_in_nI (show n < 24 by omega) (show 24 < 2 ^ 31 by omega)
  have hsg := (hM.2.1 n h2).2.2.2.2.2.2.2.1
  refine xq_isNodeT hst.2.2 h2 (br_f (by decide) ⟨b, ?_⟩)
  rw [nI_clamp (by omega), nI_clamp (by omega), ar_Oap, ar_Nap, ar_Nap]
  by_cases z : nm s = 0
  · refine br_t (by rw [z]; decide) ?_
    unfold wX_seen_66 wX_seen_67
    refine br_t rfl ?_
    unfold wpY_seen
    dsimp only
    refine yq_in (by omega) h (br_f (by decide) (yq_in (by omega) h2 (br_f (by decide) ?_)))
    refine yq_inStage (by omega) hst.2.1 hO (fun x hx e => ?_) (fun _ => br_t (by decide) ⟨rfl, J⟩)
    have := re_nmn hO hx
    rw [e] at this
    exact absurd z this
  · obtain ⟨x, hx, rfl⟩ := (re_who hO (s := s) (by omega)).resolve_left z
    obtain ⟨d1, d2, d3, d4⟩ := hV.1 x hx
    obtain ⟨w1, w2⟩ := hV.2.2.1 x hx n (by omega)
    have w2 := w2 h2
    have v2' := hV.2.1 x hx n h2
    have e24 : ∀ q, (24 : Int32) * nI q + nI n = nI (24 * q + n) := fun q => by rw [show (24 : Int32) = nI 24 from rfl, ar_mul, ar_add]
    refine br_f (by rw [show (0 : Int32) = nI 0 from rfl, ar_ilt hb (by omega)]; omega) ⟨bn, ?_⟩
    have Y : ∀ post : Int32 → Prop, (((nI (wo (24 * x + n)) = 0 → (post (-3))) ∧ (¬ nI (wo (24 * x + n)) = 0 → (post (nI (vl (24 * x + n))))))) → wpY_seen post (nI st, nI nd, nI bu, yad, nI wk, nI nx, nI (ct 1), nI (ct 0), nI (ct 2), nI (ct 3), nI (ct 4), nI (ct 5), nI (ct 6), nI (ct 7), yts, nI gi, yga, ar_N ww, ar_N rg, ar_N ce, gs, ar_N kd, ar_N fa, ybs, ycs, ar_N sg, ywd, ar_O so, ycd, yws, ar_N nb, ar_N sy, ar_N vl, ar_N pv, ar_N pc, ygu, ar_N gv, ar_N dn, ar_N wo, ar_N pp, ar_N yo, ar_N wh, ar_N wt, ar_N wi, ar_N tr, ar_N tg, yone, ytwo, ylv) (nI (sy x)) (nI n) := by
      intro post hp
      unfold wpY_seen
      dsimp only
      refine yq_in (by omega) h (br_f (by decide) (yq_in (by omega) h2 (br_f (by decide) ?_)))
      refine yq_inStage (by omega) hst.2.1 hO (fun y hy e => ?_) (fun q => absurd rfl (q x hx))
      have e2 := re_inj hO hy hx e
      subst e2
      refine br_f (nI_pos (by omega)) ?_
      rw [e24, nI_clamp (by omega)]
      have b2 := vp_in_nI (show 24 * y + n < 120 by omega) (show 120 < 2 ^ 31 by omega)
      exact ⟨b2, hp.1, fun q => ⟨b2, hp.2 q⟩⟩
    have yes : re_av (sg n) (sy x) (dn x) → wX_seen_62 (fun r => wpY_seen (fun r' => r' = r ∧ J0) (nI st, nI nd, nI bu, yad, nI wk, nI nx, nI (ct 1), nI (ct 0), nI (ct 2), nI (ct 3), nI (ct 4), nI (ct 5), nI (ct 6), nI (ct 7), yts, nI gi, yga, ar_N ww, ar_N rg, ar_N ce, gs, ar_N kd, ar_N fa, ybs, ycs, ar_N sg, ywd, ar_O so, ycd, yws, ar_N nb, ar_N sy, ar_N vl, ar_N pv, ar_N pc, ygu, ar_N gv, ar_N dn, ar_N wo, ar_N pp, ar_N yo, ar_N wh, ar_N wt, ar_N wi, ar_N tr, ar_N tg, yone, ytwo, ylv) (nI (sy x)) (nI n)) (nI (sy x)) (nI n) (nI st) (nI nd) (nI bu) xad (nI nx) xga xto (ar_N kd) (ar_N sb) (ar_N tc) (ar_N sg) (ar_N wd) (ar_N fa) (ar_N ww) gs (ar_O so) xcd xws (ar_N rg) (ar_N ce) (ar_O nm) xon xgu (ar_N xdn) (ar_N xsn) (ar_N xpr) (ar_N xcl) xtr (ar_N ct) xlf xrt xlv := by
      intro q
      unfold wX_seen_62 wX_seen_67
      refine br_f (by decide) ?_
      rw [e24, nI_clamp (by omega), ar_Nap, (v2' q).1]
      refine ⟨vp_in_nI (by omega) (by omega), Y _ (br_f ?_ ⟨rfl, J⟩)⟩
      rw [w2.mpr q]; decide
    have no : ¬ re_av (sg n) (sy x) (dn x) → wX_seen_66 (fun r => wpY_seen (fun r' => r' = r ∧ J0) (nI st, nI nd, nI bu, yad, nI wk, nI nx, nI (ct 1), nI (ct 0), nI (ct 2), nI (ct 3), nI (ct 4), nI (ct 5), nI (ct 6), nI (ct 7), yts, nI gi, yga, ar_N ww, ar_N rg, ar_N ce, gs, ar_N kd, ar_N fa, ybs, ycs, ar_N sg, ywd, ar_O so, ycd, yws, ar_N nb, ar_N sy, ar_N vl, ar_N pv, ar_N pc, ygu, ar_N gv, ar_N dn, ar_N wo, ar_N pp, ar_N yo, ar_N wh, ar_N wt, ar_N wi, ar_N tr, ar_N tg, yone, ytwo, ylv) (nI (sy x)) (nI n)) (nI (sy x)) (nI n) (nI st) (nI nd) (nI bu) xad (nI nx) xga xto (ar_N kd) (ar_N sb) (ar_N tc) (ar_N sg) (ar_N wd) (ar_N fa) (ar_N ww) gs (ar_O so) xcd xws (ar_N rg) (ar_N ce) (ar_O nm) xon xgu (ar_N xdn) (ar_N xsn) (ar_N xpr) (ar_N xcl) xtr (ar_N ct) xlf xrt xlv := by
      intro q
      unfold wX_seen_66 wX_seen_67
      refine br_t rfl (Y _ (br_t ?_ ⟨rfl, J⟩))
      have : ¬ wo (24 * x + n) = 1 := fun c => q (w2.mp c)
      rw [show wo (24 * x + n) = 0 by omega]; rfl
    refine pk_lt (sg n) (sy x) (fun q => yes (Or.inl q)) (fun q => ⟨bn, ?_⟩)
    refine pk_eq (sg n) (sy x) (fun q2 => ⟨b, ?_⟩) (fun q2 => no (by unfold re_av; omega))
    rw [d1]
    exact pk_eq (dn x) 0 (fun q3 => no (by unfold re_av; omega)) (fun q3 => yes (Or.inr ⟨q2, by omega⟩))
theorem i_vc_trace {k : Nat} {u : SX} {v : SY} (I : i_Rel k u v) (hk : k + 6 ≤ 3072) (v1 : Int32) (v2 : Int32) : wpX_trace (fun r => wpY_trace (fun r' => r' = r ∧ i_Rel (k + 6) u v) v v1 v2) u v1 v2 := by
  have J := i_up I
  revert J
  generalize i_Rel (k + 6) u v = J0
  intro J
  refine re_el (P := fun u v => wpX_trace (fun r => wpY_trace (fun r' => r' = r ∧ J0) v v1 v2) u v1 v2) ?_ I
  intro st nd bu nx wk gi ad xad xga xto yad yts yga kd sb tc sg wd fa ww so rg ce nm xdn xsn xpr xcl ct nb sy vl pv pc gv dn wo pp yo wh wt wi tr tg cd ws gs xcd xws xon xgu xlf xrt xlv ybs ycs ywd ycd yws ygu yone ytwo ylv xtr hR
  unfold wpX_trace
  dsimp only
  obtain ⟨hM, hB, hO, hV, hQ, hP, hC, hL, hk20⟩ := hR
  have hn := hO.2.2.2.2
  have h7 := hC.2.2.1
  rcases pk_ix v2 (n := 3) (by omega) with h | h | ⟨w, h, rfl⟩
  · refine xq_in1F (n := 3) (by omega) (Or.inl h) (br_t rfl ?_)
    unfold wpY_trace
    dsimp only
    exact yq_inF (Or.inl h) (br_t rfl ⟨rfl, J⟩)
  · refine xq_in1F (n := 3) (by omega) (Or.inr h) (br_t rfl ?_)
    unfold wpY_trace
    dsimp only
    exact yq_inF (Or.inr h) (br_t rfl ⟨rfl, J⟩)
  refine xq_in1T (n := 3) (by omega) h (br_f (by decide) ?_)
  -- the reference, by the bound
  have Y : ∀ post : Int32 → Prop, wY_trace_29 post v1 (nI w) (nI (if 64 ≤ ct 7 then 64 else ct 7)) v1 (nI st) (nI nd) (nI bu) yad (nI wk) (nI nx) (nI (ct 1)) (nI (ct 0)) (nI (ct 2)) (nI (ct 3)) (nI (ct 4)) (nI (ct 5)) (nI (ct 6)) (nI (ct 7)) yts (nI gi) yga (ar_N ww) (ar_N rg) (ar_N ce) gs (ar_N kd) (ar_N fa) ybs ycs (ar_N sg) ywd (ar_O so) ycd yws (ar_N nb) (ar_N sy) (ar_N vl) (ar_N pv) (ar_N pc) ygu (ar_N gv) (ar_N dn) (ar_N wo) (ar_N pp) (ar_N yo) (ar_N wh) (ar_N wt) (ar_N wi) (ar_N tr) (ar_N tg) yone ytwo ylv → wpY_trace post (nI st, nI nd, nI bu, yad, nI wk, nI nx, nI (ct 1), nI (ct 0), nI (ct 2), nI (ct 3), nI (ct 4), nI (ct 5), nI (ct 6), nI (ct 7), yts, nI gi, yga, ar_N ww, ar_N rg, ar_N ce, gs, ar_N kd, ar_N fa, ybs, ycs, ar_N sg, ywd, ar_O so, ycd, yws, ar_N nb, ar_N sy, ar_N vl, ar_N pv, ar_N pc, ygu, ar_N gv, ar_N dn, ar_N wo, ar_N pp, ar_N yo, ar_N wh, ar_N wt, ar_N wi, ar_N tr, ar_N tg, yone, ytwo, ylv) v1 (nI w) := by
    intro post hp
    unfold wpY_trace
    dsimp only
    refine yq_in (b := 3) (by omega) h (br_f (by decide) ?_)
    refine pk_le 64 (ct 7) (fun q => ?_) (fun q => ?_)
    · rw [if_pos q] at hp; exact hp
    · rw [if_neg (by omega)] at hp; exact hp
  have out : (v1 < 0 ∨ nI (if 64 ≤ ct 7 then 64 else ct 7) ≤ v1) → wpY_trace (fun r' => r' = -3 ∧ J0) (nI st, nI nd, nI bu, yad, nI wk, nI nx, nI (ct 1), nI (ct 0), nI (ct 2), nI (ct 3), nI (ct 4), nI (ct 5), nI (ct 6), nI (ct 7), yts, nI gi, yga, ar_N ww, ar_N rg, ar_N ce, gs, ar_N kd, ar_N fa, ybs, ycs, ar_N sg, ywd, ar_O so, ycd, yws, ar_N nb, ar_N sy, ar_N vl, ar_N pv, ar_N pc, ygu, ar_N gv, ar_N dn, ar_N wo, ar_N pp, ar_N yo, ar_N wh, ar_N wt, ar_N wi, ar_N tr, ar_N tg, yone, ytwo, ylv) v1 (nI w) := by
    intro q
    refine Y _ ?_
    unfold wY_trace_29
    exact yq_inF q (br_t rfl ⟨rfl, J⟩)
  rw [ar_Nap]
  rcases pk_ix v1 (n := 64) (by omega) with h1 | h1 | ⟨j, h1, rfl⟩
  · exact br_t h1 (out (Or.inl h1))
  · have h0 : ¬ v1 < 0 := by
      rw [Int32.le_iff_toInt_le, nI_toInt (by omega)] at h1
      rw [Int32.lt_iff_toInt_lt, show (0 : Int32).toInt = 0 from rfl]
      omega
    refine br_f h0 (br_t h1 (out (Or.inr ?_)))
    refine Int32.le_trans (nI_le (b := 64) ?_ (by omega)) h1
    by_cases q : 64 ≤ ct 7
    · rw [if_pos q]; omega
    · rw [if_neg q]; omega
  refine br_f (nI_pos (by omega)) (br_f (nI_ge (b := 64) (by omega) (by omega)) ?_)
  refine pk_lt j (ct 7) (fun q => ?_) (fun q => ?_)
  · obtain ⟨t1, t2, t3, t4⟩ := hC.2.2.2 ((ct 7 - 1 - j) % 64)
    have hm := Nat.mod_lt (ct 7 - 1 - j) (show 64 > 0 by decide)
    have e1 : nI (ct 7) - 1 - nI j = nI (ct 7 - 1 - j) := by
      rw [show (1 : Int32) = nI 1 from rfl, pk_sub (by omega), pk_sub (by omega)]
    have e2 : nI (ct 7 - 1 - j) &&& 63 = nI ((ct 7 - 1 - j) % 64) := pk_andN (by omega) 6 rfl
    rw [e1, e2]
    refine ⟨vp_in_nI hm (by omega), fun y ey => ?_⟩
    rw [nI_clamp (by omega), t1] at ey
    rw [ey]
    generalize hi : (ct 7 - 1 - j) % 64 = i at *
    have big : wi i * 4294967296 + wh i * 65536 + wt i < 2 ^ 62 := by omega
    have yw : ∀ post : Int32 → Prop, (((nI w = 0 → (post (nI (wh i)))) ∧ (¬ nI w = 0 → (((nI w = 1 → (post (nI (wt i)))) ∧ (¬ nI w = 1 → (post (nI (wi i))))))))) → wpY_trace post (nI st, nI nd, nI bu, yad, nI wk, nI nx, nI (ct 1), nI (ct 0), nI (ct 2), nI (ct 3), nI (ct 4), nI (ct 5), nI (ct 6), nI (ct 7), yts, nI gi, yga, ar_N ww, ar_N rg, ar_N ce, gs, ar_N kd, ar_N fa, ybs, ycs, ar_N sg, ywd, ar_O so, ycd, yws, ar_N nb, ar_N sy, ar_N vl, ar_N pv, ar_N pc, ygu, ar_N gv, ar_N dn, ar_N wo, ar_N pp, ar_N yo, ar_N wh, ar_N wt, ar_N wi, ar_N tr, ar_N tg, yone, ytwo, ylv) (nI j) (nI w) := by
      intro post hp
      refine Y _ ?_
      unfold wY_trace_29
      refine yq_in (by by_cases c : 64 ≤ ct 7 <;> simp only [c, if_true, if_false] <;> omega) (by by_cases c : 64 ≤ ct 7 <;> simp only [c, if_true, if_false] <;> omega) (br_f (by decide) ⟨by decide, fun z ez => ?_⟩)
      rw [e1, show nI (ct 7 - 1 - j) - nI (ct 7 - 1 - j) / 64 * 64 = nI ((ct 7 - 1 - j) % 64) from ar_r64 (by omega), hi] at ez
      have bi := vp_in_nI hm (show 64 < 2 ^ 31 by omega)
      rw [ez, nI_clamp (by omega)]
      exact ⟨fun c => ⟨bi, hp.1 c⟩, fun c => ⟨fun c2 => ⟨bi, (hp.2 c).1 c2⟩, fun c2 => ⟨bi, (hp.2 c).2 c2⟩⟩⟩
    refine br_c (fun w0 => ?_) (fun w0 => br_c (fun w1 => ?_) (fun w1 => ?_))
    · have e : ((lN (wi i * 4294967296 + wh i * 65536 + wt i) >>> ((16 : Int32).toInt64 &&& 63)).toInt32) &&& 65535 = nI (wh i) := by
        rw [pf_shr (d := 16) (by decide) big, lN_i, nx_mod]
        exact congrArg nI (by omega)
      rw [e]
      exact yw _ (br_t w0 ⟨rfl, J⟩)
    · have e : (lN (wi i * 4294967296 + wh i * 65536 + wt i)).toInt32 &&& 65535 = nI (wt i) := by
        rw [lN_i, nx_mod]
        exact congrArg nI (by omega)
      rw [e]
      exact yw _ (br_f w0 (br_t w1 ⟨rfl, J⟩))
    · have e : (((lN (wi i * 4294967296 + wh i * 65536 + wt i)).toUInt64 >>> ((32 : Int32).toInt64.toUInt64 &&& Int64.toUInt64 63)).toInt64).toInt32 = nI (wi i) := by
        rw [show (32 : Int32) = nI 32 from rfl, wb_shr (by omega) (by decide), lN_i]
        exact congrArg nI (by omega)
      rw [e]
      exact yw _ (br_f w0 (br_f w1 ⟨rfl, J⟩))
  · refine out (Or.inr (nI_le ?_ (by omega)))
    rw [if_neg (by omega)]
    exact q
end
section
/-! put, poke, run, drain -/
theorem i_vc_put {k : Nat} {u : SX} {v : SY} (I : i_Rel k u v) (hk : k + 6 ≤ 3072) (v1 : Int32) (v2 : Int32) : wpX_put (fun r u' => wpY_put (fun r' v' => r' = r ∧ i_Rel (k + 6) u' v') v v1 v2) u v1 v2 := by
  refine re_el (P := fun u v => wpX_put (fun r u' => wpY_put (fun r' v' => r' = r ∧ i_Rel (k + 6) u' v') v v1 v2) u v1 v2) ?_ I
  intro st nd bu nx wk gi ad xad xga xto yad yts yga kd sb tc sg wd fa ww so rg ce nm xdn xsn xpr xcl ct nb sy vl pv pc gv dn wo pp yo wh wt wi tr tg cd ws gs xcd xws xon xgu xlf xrt xlv ybs ycs ywd ycd yws ygu yone ytwo ylv xtr hR
  have J := re_in (re_up (show k ≤ k + 6 by omega) hR)
  obtain ⟨hM, hB, hO, hV, hQ, hP, hC, hL, hk20⟩ := hR
  have hst := hM.1
  have hn := hO.2.2.2.2
  unfold wpX_put wpY_put
  dsimp only
  rcases pk_ix v1 (n := 6) (by omega) with h | h | ⟨r, h, rfl⟩
  · exact xq_isRegF (Or.inl h) (br_t rfl (yq_inF (Or.inl h) (br_t rfl ⟨rfl, J⟩)))
  · exact xq_isRegF (Or.inr h) (br_t rfl (yq_inF (Or.inr h) (br_t rfl ⟨rfl, J⟩)))
  have b := vp_in_nI h (show 6 < 2 ^ 31 by omega)
  refine xq_isRegT h (br_f (by decide) ?_)
  refine xq_isEmpty hst.2.1 hO (by omega) (fun z => ?_) (fun z => ?_)
  · refine br_f (by decide) ⟨b, ?_⟩
    unfold wpX_cut
    have hw := (hM.2.2.1 r h).2.1
    rw [nI_clamp (by omega), ar_Nap, show v2 &&& (((1 : Int32) <<< (nI (ww r) &&& 31)) - 1) = nI (v2.toBitVec.toNat % 2 ^ ww r) from ar_cut v2 hw]
    refine ⟨b, fun y ey => ?_⟩
    rw [ar_uN] at ey
    refine yq_in (b := 6) (by omega) h (br_f (by decide) ?_)
    refine br_t (by rw [z]; decide) ⟨b, ?_⟩
    unfold wpY_cut
    rw [show v2 &&& (((1 : Int32) <<< (nI (ww r) &&& 31)) - 1) = nI (v2.toBitVec.toNat % 2 ^ ww r) from ar_cut v2 hw]
    refine ⟨b, fun q eq => ⟨rfl, ?_⟩⟩
    rw [ar_uN] at eq
    rw [ey, eq]
    refine re_in ⟨hM, hB, hO, hV, hQ, hP, ⟨fun r' hr' => ?_, hC.2.1, hC.2.2.1, hC.2.2.2⟩, hL, by omega⟩
    unfold ar_u
    by_cases e : r' = r
    · rw [if_pos e, e]; exact Nat.mod_lt _ (Nat.two_pow_pos _)
    · rw [if_neg e]; exact hC.1 r' hr'
  · refine br_t rfl ?_
    refine yq_in (b := 6) (by omega) h (br_f (by decide) ?_)
    exact br_f (nI_nle (by omega) (by have := re_wk hO; omega)) ⟨rfl, J⟩
theorem i_vc_poke {k : Nat} {u : SX} {v : SY} (I : i_Rel k u v) (hk : k + 6 ≤ 3072) (v1 : Int32) (v2 : Int32) : wpX_poke (fun r u' => wpY_poke (fun r' v' => r' = r ∧ i_Rel (k + 6) u' v') v v1 v2) u v1 v2 := by
  refine re_el (P := fun u v => wpX_poke (fun r u' => wpY_poke (fun r' v' => r' = r ∧ i_Rel (k + 6) u' v') v v1 v2) u v1 v2) ?_ I
  intro st nd bu nx wk gi ad xad xga xto yad yts yga kd sb tc sg wd fa ww so rg ce nm xdn xsn xpr xcl ct nb sy vl pv pc gv dn wo pp yo wh wt wi tr tg cd ws gs xcd xws xon xgu xlf xrt xlv ybs ycs ywd ycd yws ygu yone ytwo ylv xtr hR
  have J := re_in (re_up (show k ≤ k + 6 by omega) hR)
  obtain ⟨hM, hB, hO, hV, hQ, hP, hC, hL, hk20⟩ := hR
  have hst := hM.1
  have hn := hO.2.2.2.2
  unfold wpX_poke wpY_poke
  dsimp only
  rcases pk_ix v1 (n := 16) (by omega) with h | h | ⟨r, h, rfl⟩
  · exact xq_in1F (n := 16) (by omega) (Or.inl h) (br_t rfl (yq_inF (Or.inl h) (br_t rfl ⟨rfl, J⟩)))
  · exact xq_in1F (n := 16) (by omega) (Or.inr h) (br_t rfl (yq_inF (Or.inr h) (br_t rfl ⟨rfl, J⟩)))
  have b := vp_in_nI h (show 16 < 2 ^ 31 by omega)
  refine xq_in1T (n := 16) (by omega) h (br_f (by decide) ?_)
  refine xq_isEmpty hst.2.1 hO (by omega) (fun z => ?_) (fun z => ?_)
  · have hm := Nat.mod_lt v2.toBitVec.toNat (show 256 > 0 by decide)
    refine br_f (by decide) ⟨b, fun y ey => ?_⟩
    rw [nI_clamp (by omega), show v2 &&& 255 = nI (v2.toBitVec.toNat % 256) from ar_m255 v2, ar_sh _ (by omega), ar_uN] at ey
    refine yq_in (b := 16) (by omega) h (br_f (by decide) ?_)
    refine br_t (by rw [z]; decide) ⟨b, fun q eq => ⟨rfl, ?_⟩⟩
    rw [nI_clamp (by omega), show v2 &&& 255 = nI (v2.toBitVec.toNat % 256) from ar_m255 v2, ar_uN] at eq
    rw [ey, eq]
    refine re_in ⟨hM, hB, hO, hV, hQ, hP, ⟨hC.1, fun r' hr' => ?_, hC.2.2.1, hC.2.2.2⟩, hL, by omega⟩
    unfold ar_u
    by_cases e : r' = r
    · rw [if_pos e]; exact hm
    · rw [if_neg e]; exact hC.2.1 r' hr'
  · refine br_t rfl ?_
    refine yq_in (b := 16) (by omega) h (br_f (by decide) ?_)
    exact br_f (nI_nle (by omega) (by have := re_wk hO; omega)) ⟨rfl, J⟩
theorem i_vc_run {k : Nat} {u : SX} {v : SY} (I : i_Rel k u v) (hk : k + 6 ≤ 3072) (v1 : Int32) : wpX_run (fun r u' => wpY_run (fun r' v' => r' = r ∧ i_Rel (k + 6) u' v') v v1) u v1 := by
  refine re_el (P := fun u v => wpX_run (fun r u' => wpY_run (fun r' v' => r' = r ∧ i_Rel (k + 6) u' v') v v1) u v1) ?_ I
  intro st nd bu nx wk gi ad xad xga xto yad yts yga kd sb tc sg wd fa ww so rg ce nm xdn xsn xpr xcl ct nb sy vl pv pc gv dn wo pp yo wh wt wi tr tg cd ws gs xcd xws xon xgu xlf xrt xlv ybs ycs ywd ycd yws ygu yone ytwo ylv xtr hR
  have J := re_in (re_up (show k ≤ k + 6 by omega) hR)
  obtain ⟨hM, hB, hO, hV, hQ, hP, hC, hL, hk20⟩ := hR
  unfold wpX_run wpY_run
  dsimp only
  rcases hB with ⟨b0, w0⟩ | ⟨b1, hF, hwd⟩
  · have eb : nI bu = 0 := by rw [b0]; rfl
    rcases pk_ix v1 (n := 101) (by omega) with h | h | ⟨n, h, rfl⟩
    · exact xq_in1F (n := 101) (by omega) (Or.inl h) (br_t rfl (br_t eb ⟨rfl, J⟩))
    · exact xq_in1F (n := 101) (by omega) (Or.inr h) (br_t rfl (br_t eb ⟨rfl, J⟩))
    · exact xq_in1T (n := 101) (by omega) h (br_f (by decide) (br_t eb (br_t eb ⟨rfl, J⟩)))
  · have nb0 : ¬ nI bu = 0 := by rw [b1]; decide
    rcases pk_ix v1 (n := 101) (by omega) with h | h | ⟨n, h, rfl⟩
    · exact xq_in1F (n := 101) (by omega) (Or.inl h) (br_t rfl (br_f nb0 (yq_inF (Or.inl h) (br_t rfl ⟨rfl, J⟩))))
    · exact xq_in1F (n := 101) (by omega) (Or.inr h) (br_t rfl (br_f nb0 (yq_inF (Or.inr h) (br_t rfl ⟨rfl, J⟩))))
    · obtain ⟨wk1, nx1, gi1, yts1, nm1, ct1, xdn1, xsn1, xpr1, xcl1, vl1, pv1, pc1, gv1, dn1, wo1, pp1, yo1, tr1, tg1, nb1, sy1, rg1, ce1, wh1, wt1, wi1, xon1, xgu1, ygu1, xtr1, r1, r2, r3, r4, r5, r6, r7, r8⟩ := pr_run (n := n) (c0 := ct 1) (bu := bu) (xga := xga) (xto := xto) (xlf := xlf) (xrt := xrt) (xlv := xlv) (yga := yga) (yone := yone) (ytwo := ytwo) (ylv := ylv) (by omega) hM hF hwd n 0 wk nx gi yts nm ct xdn xsn xpr xcl vl pv pc gv dn wo pp yo tr tg nb sy rg ce wh wt wi xon xgu ygu xtr (by omega) hO hV hQ hP hC (by omega)
      refine xq_in1T (n := 101) (by omega) h (br_f (by decide) (br_f nb0 (fun y ey => ⟨n + 1, ?_⟩)))
      rw [ar_Nap] at ey
      rw [ey]
      refine r7 _ ?_
      refine br_f nb0 (yq_in (b := 101) (by omega) h (br_f (by decide) ⟨n + 1, ?_⟩))
      refine r8 _ ⟨rfl, ?_⟩
      exact re_in ⟨hM, Or.inr ⟨b1, hF, hwd⟩, r1, r2, r3, r4, r5, hL, by omega⟩
theorem i_vc_drain {k : Nat} {u : SX} {v : SY} (I : i_Rel k u v) (hk : k + 6 ≤ 3072) : wpX_drain (fun r u' => wpY_drain (fun r' v' => r' = r ∧ i_Rel (k + 6) u' v') v) u := by
  refine re_el (P := fun u v => wpX_drain (fun r u' => wpY_drain (fun r' v' => r' = r ∧ i_Rel (k + 6) u' v') v) u) ?_ I
  intro st nd bu nx wk gi ad xad xga xto yad yts yga kd sb tc sg wd fa ww so rg ce nm xdn xsn xpr xcl ct nb sy vl pv pc gv dn wo pp yo wh wt wi tr tg cd ws gs xcd xws xon xgu xlf xrt xlv ybs ycs ywd ycd yws ygu yone ytwo ylv xtr hR
  have J := re_in (re_up (show k ≤ k + 6 by omega) hR)
  obtain ⟨hM, hB, hO, hV, hQ, hP, hC, hL, hk20⟩ := hR
  have hst := hM.1
  have hn := hO.2.2.2.2
  have hwk := re_wk hO
  unfold wpX_drain wpY_drain
  dsimp only
  rcases hB with ⟨b0, w0⟩ | ⟨b1, hF, hwd⟩
  · exact br_t (by rw [b0]; rfl) (br_t (by rw [b0]; rfl) ⟨rfl, J⟩)
  · have nb0 : ¬ nI bu = 0 := by rw [b1]; decide
    refine br_f nb0 (xq_isEmpty hst.2.1 hO (by omega) (fun z => ?_) (fun z => ?_))
    · refine br_f (by decide) (br_f nb0 ⟨1, ?_⟩)
      rw [wY_drain_11]
      exact br_t (by rw [z]; decide) ⟨rfl, J⟩
    · obtain ⟨e, wk1, nx1, gi1, yts1, nm1, ct1, xdn1, xsn1, xpr1, xcl1, vl1, pv1, pc1, gv1, dn1, wo1, pp1, yo1, tr1, tg1, nb1, sy1, rg1, ce1, wh1, wt1, wi1, xon1, xgu1, ygu1, xtr1, r1, r2, r3, r4, r5, r6, r7, r8, r9⟩ := pr_drain (bu := bu) (xga := xga) (xto := xto) (xlf := xlf) (xrt := xrt) (xlv := xlv) (yga := yga) (yone := yone) (ytwo := ytwo) (ylv := ylv) hM hF hwd (6 * wk + (5 - sy 0)) 0 wk nx gi yts nm ct xdn xsn xpr xcl vl pv pc gv dn wo pp yo tr tg nb sy rg ce wh wt wi xon xgu ygu xtr hO hV hQ hP hC (by omega) (by omega) (Nat.le_refl _)
      refine br_t rfl ⟨_, r8 _ ?_⟩
      refine br_f nb0 ⟨_, r9 _ ⟨rfl, ?_⟩⟩
      exact re_in ⟨hM, Or.inr ⟨b1, hF, hwd⟩, r1, r2, r3, r4, r5, hL, by omega⟩
end
section
/-! the machine is another one -/
/-- a node's width is 1 to 16 if its operands' are -/
theorem re_wb {kd fa sb tc ww wd : Nat → Nat} {n : Nat} (hk : kd n ≤ 9) (h0 : kd n = 0 → fa n < 65536) (h1 : kd n = 1 → 1 ≤ ww (fa n) ∧ ww (fa n) ≤ 16) (ha : 3 ≤ kd n → 1 ≤ wd (fa n) ∧ wd (fa n) ≤ 16) (hb : 3 ≤ kd n → 1 ≤ wd (sb n) ∧ wd (sb n) ≤ 16) (hc : kd n = 9 → 1 ≤ wd (tc n) ∧ wd (tc n) ≤ 16) : 1 ≤ re_w kd fa sb tc ww wd n ∧ re_w kd fa sb tc ww wd n ≤ 16 := by
  unfold re_w
  by_cases k0 : kd n = 0
  · rw [if_pos k0]; exact ⟨re_bl1 _, re_bl16 (h0 k0)⟩
  rw [if_neg k0]
  by_cases k1 : kd n = 1
  · rw [if_pos k1]; exact h1 k1
  rw [if_neg k1]
  by_cases k2 : kd n = 2
  · rw [if_pos k2]; omega
  rw [if_neg k2]
  have ha := ha (by omega)
  have hb := hb (by omega)
  by_cases k5 : kd n = 5
  · rw [if_pos k5]
    by_cases z : wd (fa n) < wd (sb n)
    · rw [if_pos z]; exact ha
    · rw [if_neg z]; exact hb
  rw [if_neg k5]
  by_cases k7 : kd n = 7 ∨ kd n = 8
  · rw [if_pos k7]; omega
  rw [if_neg k7]
  by_cases k9 : kd n = 9
  · rw [if_pos k9]
    have hc := hc k9
    by_cases z : wd (sb n) ≤ wd (tc n)
    · rw [if_pos z]; exact hc
    · rw [if_neg z]; exact hb
  rw [if_neg k9]
  by_cases z : wd (fa n) ≤ wd (sb n)
  · rw [if_pos z]; exact hb
  · rw [if_neg z]; exact ha
/-- a node's width looks at its operands' alone -/
theorem re_wC {kd fa sb tc kd' fa' sb' tc' ww wd wd' : Nat → Nat} {n : Nat} (ek : kd' n = kd n) (ef : fa' n = fa n) (es : sb' n = sb n) (et : tc' n = tc n) (ha : 3 ≤ kd n → wd' (fa n) = wd (fa n)) (hb : 3 ≤ kd n → wd' (sb n) = wd (sb n)) (hc : kd n = 9 → wd' (tc n) = wd (tc n)) : re_w kd' fa' sb' tc' ww wd' n = re_w kd fa sb tc ww wd n := by
  unfold re_w
  rw [ek, ef, es, et]
  by_cases k0 : kd n = 0
  · rw [if_pos k0, if_pos k0]
  rw [if_neg k0, if_neg k0]
  by_cases k1 : kd n = 1
  · rw [if_pos k1, if_pos k1]
  rw [if_neg k1, if_neg k1]
  by_cases k2 : kd n = 2
  · rw [if_pos k2, if_pos k2]
  rw [if_neg k2, if_neg k2, ha (by omega), hb (by omega)]
  by_cases k5 : kd n = 5
  · rw [if_pos k5, if_pos k5]
  rw [if_neg k5, if_neg k5]
  by_cases k7 : kd n = 7 ∨ kd n = 8
  · rw [if_pos k7, if_pos k7]
  rw [if_neg k7, if_neg k7]
  by_cases k9 : kd n = 9
  · rw [if_pos k9, if_pos k9, hc k9]
  rw [if_neg k9, if_neg k9]
section
variable {st nd bu nx wk kc1 kc0 kc2 kc3 kc4 kc5 kc6 kc7 gi ad : Nat} {xad xga xto yad yts yga : Int32} {kd sb tc sg wd fa ww so rg ce nm xdn xsn xpr xcl ct nb sy vl pv pc gv dn wo pp yo wh wt wi tr tg cd ws : Nat → Nat} {gs xcd xws xon xgu xlf xrt xlv ybs ycs ywd ycd yws ygu yone ytwo ylv : Nat → Int32} {xtr : Nat → Int64}
variable {posu : SX → Prop}
/-- with nobody at work all but the machine holds -/
theorem re_idle {k : Nat} (hM : re_M st nd kd fa sb tc sg wd ww so cd ws ad gs xcd xws ycd yws ybs ycs xad yad) (hQ : ∀ i, xcl i < 16 ∧ yo i ≤ 1) (hC : re_C ww rg ce ct wh wt wi xtr) (hL : ∀ i, i < 50 → xlv i = 0) (h20 : ct 1 ≤ 20 * k) : re_R k st nd 0 (ct 1) 0 gi ad xad xga xto yad yts yga kd sb tc sg wd fa ww so rg ce ar_nz xdn xsn xpr xcl ct nb sy vl pv pc gv dn wo pp yo wh wt wi tr tg cd ws gs xcd xws xon xgu xlf xrt xlv ybs ycs ywd ycd yws ygu yone ytwo ylv xtr := by
  refine ⟨hM, Or.inl ⟨rfl, rfl⟩, ⟨fun x hx => absurd hx (by omega), fun x hx => absurd hx (by omega), fun x hx => absurd hx (by omega), fun s => ⟨fun h5 _ => if_pos h5, fun h5 => if_neg (by omega)⟩, rfl⟩, ⟨fun x hx => absurd hx (by omega), fun x hx => absurd hx (by omega), fun x hx => absurd hx (by omega), fun x hx => absurd hx (by omega)⟩, ⟨fun x hx => absurd hx (by omega), fun x hx => absurd hx (by omega), hQ⟩, fun x hx => absurd hx (by omega), hC, hL, h20⟩
theorem xq_chg (hs : st ≤ 5) (hO : re_O st wk nx (ct 1) nm nb sy) (hc : ct 1 + wk < 2 ^ 31) (hp : posu (nI st, nI nd, nI 0, xad, nI (ct 1), xga, xto, ar_N kd, ar_N sb, ar_N tc, ar_N sg, ar_N wd, ar_N fa, ar_N ww, gs, ar_O so, xcd, xws, ar_N rg, ar_N ce, ar_O ar_nz, xon, xgu, ar_N xdn, ar_N xsn, ar_N xpr, ar_N xcl, xtr, ar_N ct, xlf, xrt, xlv)) : wpX_change posu (nI st, nI nd, nI bu, xad, nI nx, xga, xto, ar_N kd, ar_N sb, ar_N tc, ar_N sg, ar_N wd, ar_N fa, ar_N ww, gs, ar_O so, xcd, xws, ar_N rg, ar_N ce, ar_O nm, xon, xgu, ar_N xdn, ar_N xsn, ar_N xpr, ar_N xcl, xtr, ar_N ct, xlf, xrt, xlv) :=
  xq_change hs (re_nmb hO hc) (fun _ h1 h2 => re_nm0 hO h1 h2) (fun i h => (hO.2.2.2.1 i).2 h) hp
end
theorem i_vc_stages {k : Nat} {u : SX} {v : SY} (I : i_Rel k u v) (hk : k + 6 ≤ 3072) (v1 : Int32) : wpX_stages (fun r u' => wpY_stages (fun r' v' => r' = r ∧ i_Rel (k + 6) u' v') v v1) u v1 := by
  refine re_el (P := fun u v => wpX_stages (fun r u' => wpY_stages (fun r' v' => r' = r ∧ i_Rel (k + 6) u' v') v v1) u v1) ?_ I
  intro st nd bu nx wk gi ad xad xga xto yad yts yga kd sb tc sg wd fa ww so rg ce nm xdn xsn xpr xcl ct nb sy vl pv pc gv dn wo pp yo wh wt wi tr tg cd ws gs xcd xws xon xgu xlf xrt xlv ybs ycs ywd ycd yws ygu yone ytwo ylv xtr hR
  have J := re_in (re_up (show k ≤ k + 6 by omega) hR)
  obtain ⟨hM, hB, hO, hV, hQ, hP, hC, hL, hk20⟩ := hR
  have hst := hM.1
  have hn := hO.2.2.2.2
  unfold wpX_stages wpY_stages
  dsimp only
  have bad : ∀ poss : Int32 → SY → Prop, poss 0 (nI st, nI nd, nI bu, yad, nI wk, nI nx, nI (ct 1), nI (ct 0), nI (ct 2), nI (ct 3), nI (ct 4), nI (ct 5), nI (ct 6), nI (ct 7), yts, nI gi, yga, ar_N ww, ar_N rg, ar_N ce, gs, ar_N kd, ar_N fa, ybs, ycs, ar_N sg, ywd, ar_O so, ycd, yws, ar_N nb, ar_N sy, ar_N vl, ar_N pv, ar_N pc, ygu, ar_N gv, ar_N dn, ar_N wo, ar_N pp, ar_N yo, ar_N wh, ar_N wt, ar_N wi, ar_N tr, ar_N tg, yone, ytwo, ylv) → wY_stages_14 poss v1 (nI st) (nI nd) (nI bu) yad (nI wk) (nI nx) (nI (ct 1)) (nI (ct 0)) (nI (ct 2)) (nI (ct 3)) (nI (ct 4)) (nI (ct 5)) (nI (ct 6)) (nI (ct 7)) yts (nI gi) yga (ar_N ww) (ar_N rg) (ar_N ce) gs (ar_N kd) (ar_N fa) ybs ycs (ar_N sg) ywd (ar_O so) ycd yws (ar_N nb) (ar_N sy) (ar_N vl) (ar_N pv) (ar_N pc) ygu (ar_N gv) (ar_N dn) (ar_N wo) (ar_N pp) (ar_N yo) (ar_N wh) (ar_N wt) (ar_N wi) (ar_N tr) (ar_N tg) yone ytwo ylv := by
    intro poss hp
    unfold wY_stages_14 wY_stages_15
    refine br_t rfl ?_
    unfold wY_stages_25
    exact yq_leave0 ⟨rfl, hp⟩
  rcases pk_ix v1 (n := 6) (by omega) with h | h | ⟨j, h, rfl⟩
  · refine xq_inF (Or.inl (Int32.lt_trans h (by decide))) (br_t rfl ?_)
    exact br_t (Int32.le_of_lt h) (bad _ ⟨rfl, J⟩)
  · have h5 : (5 : Int32) < v1 := by
      rw [Int32.le_iff_toInt_le, nI_toInt (by omega)] at h
      rw [Int32.lt_iff_toInt_lt, show (5 : Int32).toInt = 5 from rfl]
      omega
    have h0 : ¬ v1 ≤ 0 := by
      rw [Int32.lt_iff_toInt_lt, show (5 : Int32).toInt = 5 from rfl] at h5
      rw [Int32.le_iff_toInt_le, show (0 : Int32).toInt = 0 from rfl]
      omega
    refine xq_inF (Or.inr h5) (br_t rfl ?_)
    exact br_f h0 (br_t h (bad _ ⟨rfl, J⟩))
  · by_cases j0 : j = 0
    · subst j0
      refine xq_inF (Or.inl (by decide)) (br_t rfl ?_)
      exact br_t (by decide) (bad _ ⟨rfl, J⟩)
    · refine xq_in (a := 1) (b := 5) (by omega) (by omega) (by omega) (by omega) (by omega) (br_f (by decide) ?_)
      refine xq_chg hst.2.1 hO (by omega) ?_
      refine br_f (nI_nle (by omega) (by omega)) (br_f (nI_ge (b := 6) (by omega) (by omega)) ?_)
      unfold wY_stages_15
      refine br_f (by decide) ?_
      unfold wY_stages_25
      refine yq_leave1 ⟨rfl, rfl, ?_⟩
      exact re_in (re_idle (st := j) ⟨⟨by omega, by omega, hst.2.2⟩, hM.2⟩ hQ.2.2 hC hL (by omega))
theorem i_vc_guess {k : Nat} {u : SX} {v : SY} (I : i_Rel k u v) (hk : k + 6 ≤ 3072) (v1 : Int32) (v2 : Int32) : wpX_guess (fun r u' => wpY_guess (fun r' v' => r' = r ∧ i_Rel (k + 6) u' v') v v1 v2) u v1 v2 := by
  refine re_el (P := fun u v => wpX_guess (fun r u' => wpY_guess (fun r' v' => r' = r ∧ i_Rel (k + 6) u' v') v v1 v2) u v1 v2) ?_ I
  intro st nd bu nx wk gi ad xad xga xto yad yts yga kd sb tc sg wd fa ww so rg ce nm xdn xsn xpr xcl ct nb sy vl pv pc gv dn wo pp yo wh wt wi tr tg cd ws gs xcd xws xon xgu xlf xrt xlv ybs ycs ywd ycd yws ygu yone ytwo ylv xtr hR
  have J := re_in (re_up (show k ≤ k + 6 by omega) hR)
  obtain ⟨hM, hB, hO, hV, hQ, hP, hC, hL, hk20⟩ := hR
  have hst := hM.1
  have hn := hO.2.2.2.2
  unfold wpX_guess wpY_guess
  dsimp only
  have bad : ∀ poss : Int32 → SY → Prop, poss 0 (nI st, nI nd, nI bu, yad, nI wk, nI nx, nI (ct 1), nI (ct 0), nI (ct 2), nI (ct 3), nI (ct 4), nI (ct 5), nI (ct 6), nI (ct 7), yts, nI gi, yga, ar_N ww, ar_N rg, ar_N ce, gs, ar_N kd, ar_N fa, ybs, ycs, ar_N sg, ywd, ar_O so, ycd, yws, ar_N nb, ar_N sy, ar_N vl, ar_N pv, ar_N pc, ygu, ar_N gv, ar_N dn, ar_N wo, ar_N pp, ar_N yo, ar_N wh, ar_N wt, ar_N wi, ar_N tr, ar_N tg, yone, ytwo, ylv) → wY_guess_25 poss v1 v2 (nI st) (nI nd) (nI bu) yad (nI wk) (nI nx) (nI (ct 1)) (nI (ct 0)) (nI (ct 2)) (nI (ct 3)) (nI (ct 4)) (nI (ct 5)) (nI (ct 6)) (nI (ct 7)) yts (nI gi) yga (ar_N ww) (ar_N rg) (ar_N ce) gs (ar_N kd) (ar_N fa) ybs ycs (ar_N sg) ywd (ar_O so) ycd yws (ar_N nb) (ar_N sy) (ar_N vl) (ar_N pv) (ar_N pc) ygu (ar_N gv) (ar_N dn) (ar_N wo) (ar_N pp) (ar_N yo) (ar_N wh) (ar_N wt) (ar_N wi) (ar_N tr) (ar_N tg) yone ytwo ylv := by
    intro poss hp
    unfold wY_guess_25 wY_guess_26
    refine br_t rfl ?_
    unfold wY_guess_38
    exact yq_leave0 ⟨rfl, hp⟩
  rcases pk_ix v1 (n := 6) (by omega) with h | h | ⟨j, h, rfl⟩
  · exact xq_isRegF (Or.inl h) (br_t rfl (yq_inF (Or.inl h) (br_t rfl (bad _ ⟨rfl, J⟩))))
  · exact xq_isRegF (Or.inr h) (br_t rfl (yq_inF (Or.inr h) (br_t rfl (bad _ ⟨rfl, J⟩))))
  refine xq_isRegT h (br_f (by decide) ?_)
  have e8 : (-8 : Int32).toInt = -8 := rfl
  have e9 : (9 : Int32).toInt = 9 := rfl
  have e9' : (-9 : Int32).toInt = -9 := rfl
  have e10 : (10 : Int32).toInt = 10 := rfl
  by_cases l : v2 < -8
  · refine xq_inF (Or.inl l) (br_t rfl ?_)
    refine yq_in (b := 6) (by omega) h (br_f (by decide) (br_t ?_ (bad _ ⟨rfl, J⟩)))
    rw [Int32.lt_iff_toInt_lt, e8] at l
    rw [Int32.le_iff_toInt_le, e9']
    omega
  have l9 : ¬ v2 ≤ -9 := by
    rw [Int32.lt_iff_toInt_lt, e8] at l
    rw [Int32.le_iff_toInt_le, e9']
    omega
  by_cases g : 9 < v2
  · refine xq_inF (Or.inr g) (br_t rfl ?_)
    refine yq_in (b := 6) (by omega) h (br_f (by decide) (br_f l9 (br_t ?_ (bad _ ⟨rfl, J⟩))))
    rw [Int32.lt_iff_toInt_lt, e9] at g
    rw [Int32.le_iff_toInt_le, e10]
    omega
  have g10 : ¬ 10 ≤ v2 := by
    rw [Int32.lt_iff_toInt_lt, e9] at g
    rw [Int32.le_iff_toInt_le, e10]
    omega
  have b := vp_in_nI h (show 6 < 2 ^ 31 by omega)
  refine xq_inT l g (br_f (by decide) ?_)
  refine xq_chg hst.2.1 hO (by omega) ⟨b, fun y ey => ?_⟩
  rw [nI_clamp (by omega), ar_byZ (by rw [Int32.lt_iff_toInt_lt, e8] at l; omega) (by rw [Int32.lt_iff_toInt_lt, e9] at g; omega)] at ey
  rw [ey]
  refine yq_in (b := 6) (by omega) h (br_f (by decide) (br_f l9 (br_f g10 ?_)))
  unfold wY_guess_26
  refine br_f (by decide) ⟨b, fun z ez => ?_⟩
  rw [nI_clamp (by omega)] at ez
  rw [ez]
  unfold wY_guess_38
  refine yq_leave1 ⟨rfl, rfl, ?_⟩
  refine re_in (re_idle (gs := upd gs j v2) ⟨hM.1, hM.2.1, fun r hr => ?_, hM.2.2.2⟩ hQ.2.2 hC hL (by omega))
  obtain ⟨w1, w2, w3⟩ := hM.2.2.1 r hr
  by_cases e : r = j
  · subst e
    rw [pk_us]
    exact ⟨w1, w2, Int32.not_lt.mp g⟩
  · rw [pk_un e]
    exact ⟨w1, w2, w3⟩
/-! wiping -/
def ar_fl (f : Nat → Nat) (v : Nat) : Nat → Nat → Nat
  | 0 => f
  | n + 1 => ar_u (ar_fl f v n) n v
def ar_fg (f : Nat → Int32) (v : Int32) : Nat → Nat → Int32
  | 0 => f
  | n + 1 => upd (ar_fg f v n) n v
theorem ar_flI (f : Nat → Nat) (v : Nat) : ∀ n i, i < n → ar_fl f v n i = v := by
  intro n
  induction n with
  | zero => intro i hi; omega
  | succ n ih =>
    intro i hi
    show ar_u (ar_fl f v n) n v i = v
    unfold ar_u
    by_cases e : i = n
    · rw [if_pos e]
    · rw [if_neg e]; exact ih i (by omega)
theorem ar_fgI (f : Nat → Int32) (v : Int32) : ∀ n i, i < n → ar_fg f v n i = v := by
  intro n
  induction n with
  | zero => intro i hi; omega
  | succ n ih =>
    intro i hi
    show upd (ar_fg f v n) n v i = v
    unfold upd
    by_cases e : i = n
    · rw [if_pos e]
    · rw [if_neg e]; exact ih i (by omega)
section
variable {st nd bu nx wk kc1 kc0 kc2 kc3 kc4 kc5 kc6 kc7 gi ad : Nat} {xad xga xto yad yts yga : Int32} {kd sb tc sg wd fa ww so rg ce nm xdn xsn xpr xcl ct nb sy vl pv pc gv dn wo pp yo wh wt wi tr tg cd ws : Nat → Nat} {gs xcd xws xon xgu xlf xrt xlv ybs ycs ywd ycd yws ygu yone ytwo ylv : Nat → Int32} {xtr : Nat → Int64}
variable {poss : Int32 → SX → Prop} {pos2 : Int32 → SY → Prop}
theorem xq_wipe37 {x1 : Int32} (hp : poss x1 (nI st, nI nd, nI bu, xad, nI nx, xga, xto, ar_N kd, ar_N sb, ar_N tc, ar_N sg, ar_N wd, ar_N fa, ar_N ww, ar_fg gs 9 6, ar_O so, xcd, xws, ar_N rg, ar_N ce, ar_O nm, xon, xgu, ar_N xdn, ar_N xsn, ar_N xpr, ar_N xcl, xtr, ar_N ct, xlf, xrt, xlv)) : ∀ d j, j + d = 6 → wX_wipe_37 poss x1 (nI st) (nI nd) (nI bu) xad (nI nx) xga xto (d + 1) (nI j) (ar_N kd) (ar_N sb) (ar_N tc) (ar_N sg) (ar_N wd) (ar_N fa) (ar_N ww) (ar_fg gs 9 j) (ar_O so) xcd xws (ar_N rg) (ar_N ce) (ar_O nm) xon xgu (ar_N xdn) (ar_N xsn) (ar_N xpr) (ar_N xcl) xtr (ar_N ct) xlf xrt xlv := by
  intro d
  induction d with
  | zero =>
    intro j hj
    have e : j = 6 := by omega
    subst e
    rw [wX_wipe_37]
    exact br_t (by decide) hp
  | succ d ih =>
    intro j hj
    have i1 := ih (j + 1) (by omega)
    rw [wX_wipe_37]
    refine br_f (nI_ge (b := 6) (by omega) (by omega)) ⟨vp_in_nI (by omega) (by omega), fun y ey w ew => ?_⟩
    rw [nI_clamp (by omega), show vp_nar .byte 9 = 9 from ar_byR 9 (by omega)] at ey
    rw [ey, ew, nI_1]
    exact i1
theorem xq_wipe16 {x1 : Int32} (hp : ∃ f, wX_wipe_37 poss x1 (nI st) (nI nd) (nI bu) xad (nI nx) xga xto f (nI 0) (ar_N kd) (ar_N sb) (ar_N tc) (ar_N sg) (ar_N wd) (ar_N fa) (ar_N ww) gs (ar_O (ar_fl so 0 7)) xcd xws (ar_N rg) (ar_N ce) (ar_O nm) xon xgu (ar_N xdn) (ar_N xsn) (ar_N xpr) (ar_N xcl) xtr (ar_N ct) xlf xrt xlv) : ∀ d j, j + d = 7 → wX_wipe_16 poss x1 (nI st) (nI nd) (nI bu) xad (nI nx) xga xto (d + 1) (nI j) (ar_N kd) (ar_N sb) (ar_N tc) (ar_N sg) (ar_N wd) (ar_N fa) (ar_N ww) gs (ar_O (ar_fl so 0 j)) xcd xws (ar_N rg) (ar_N ce) (ar_O nm) xon xgu (ar_N xdn) (ar_N xsn) (ar_N xpr) (ar_N xcl) xtr (ar_N ct) xlf xrt xlv := by
  intro d
  induction d with
  | zero =>
    intro j hj
    have e : j = 7 := by omega
    subst e
    rw [wX_wipe_16]
    exact br_t (by decide) hp
  | succ d ih =>
    intro j hj
    have i1 := ih (j + 1) (by omega)
    rw [wX_wipe_16]
    refine br_f (nI_nlt (a := 6) (by omega) (by omega)) ⟨vp_in_nI (by omega) (by omega), fun y ey w ew => ?_⟩
    rw [nI_clamp (by omega), show vp_nar .byte (-1) = ar_i 0 from ar_by1, ar_uO] at ey
    rw [ey, ew, nI_1]
    exact i1
theorem yq_wipe33 {x1 : Int32} (hp : pos2 x1 (nI st, nI nd, nI 0, yad, nI 0, nI kc1, nI kc1, nI kc0, nI kc2, nI kc3, nI kc4, nI kc5, nI kc6, nI kc7, yts, nI gi, yga, ar_N ww, ar_N rg, ar_N ce, ar_fg gs 9 6, ar_N kd, ar_N fa, ybs, ycs, ar_N sg, ywd, ar_O so, ycd, yws, ar_N nb, ar_N sy, ar_N vl, ar_N pv, ar_N pc, ygu, ar_N gv, ar_N dn, ar_N wo, ar_N pp, ar_N yo, ar_N wh, ar_N wt, ar_N wi, ar_N tr, ar_N tg, yone, ytwo, ylv)) : ∀ d j, j + d = 6 → wY_wipe_33 pos2 x1 (nI st) (nI nd) (nI bu) yad (nI wk) (nI nx) (nI kc1) (nI kc0) (nI kc2) (nI kc3) (nI kc4) (nI kc5) (nI kc6) (nI kc7) yts (nI gi) yga (d + 1) (nI j) (ar_N ww) (ar_N rg) (ar_N ce) (ar_fg gs 9 j) (ar_N kd) (ar_N fa) ybs ycs (ar_N sg) ywd (ar_O so) ycd yws (ar_N nb) (ar_N sy) (ar_N vl) (ar_N pv) (ar_N pc) ygu (ar_N gv) (ar_N dn) (ar_N wo) (ar_N pp) (ar_N yo) (ar_N wh) (ar_N wt) (ar_N wi) (ar_N tr) (ar_N tg) yone ytwo ylv := by
  intro d
  induction d with
  | zero =>
    intro j hj
    have e : j = 6 := by omega
    subst e
    rw [wY_wipe_33]
    exact br_t (by decide) (yq_leave1 hp)
  | succ d ih =>
    intro j hj
    have i1 := ih (j + 1) (by omega)
    rw [wY_wipe_33]
    refine br_f (nI_ge (b := 6) (by omega) (by omega)) ⟨vp_in_nI (by omega) (by omega), fun y ey w ew => ?_⟩
    rw [nI_clamp (by omega)] at ey
    rw [ey, ew, nI_1]
    exact i1
theorem yq_wipe12 {x1 : Int32} (hp : ∃ f, wY_wipe_33 pos2 x1 (nI st) (nI nd) (nI bu) yad (nI wk) (nI nx) (nI kc1) (nI kc0) (nI kc2) (nI kc3) (nI kc4) (nI kc5) (nI kc6) (nI kc7) yts (nI gi) yga f (nI 0) (ar_N ww) (ar_N rg) (ar_N ce) gs (ar_N kd) (ar_N fa) ybs ycs (ar_N sg) ywd (ar_O (ar_fl so 0 7)) ycd yws (ar_N nb) (ar_N sy) (ar_N vl) (ar_N pv) (ar_N pc) ygu (ar_N gv) (ar_N dn) (ar_N wo) (ar_N pp) (ar_N yo) (ar_N wh) (ar_N wt) (ar_N wi) (ar_N tr) (ar_N tg) yone ytwo ylv) : ∀ d j, j + d = 7 → wY_wipe_12 pos2 x1 (nI st) (nI nd) (nI bu) yad (nI wk) (nI nx) (nI kc1) (nI kc0) (nI kc2) (nI kc3) (nI kc4) (nI kc5) (nI kc6) (nI kc7) yts (nI gi) yga (d + 1) (nI j) (ar_N ww) (ar_N rg) (ar_N ce) gs (ar_N kd) (ar_N fa) ybs ycs (ar_N sg) ywd (ar_O (ar_fl so 0 j)) ycd yws (ar_N nb) (ar_N sy) (ar_N vl) (ar_N pv) (ar_N pc) ygu (ar_N gv) (ar_N dn) (ar_N wo) (ar_N pp) (ar_N yo) (ar_N wh) (ar_N wt) (ar_N wi) (ar_N tr) (ar_N tg) yone ytwo ylv := by
  intro d
  induction d with
  | zero =>
    intro j hj
    have e : j = 7 := by omega
    subst e
    rw [wY_wipe_12]
    exact br_t (by decide) hp
  | succ d ih =>
    intro j hj
    have i1 := ih (j + 1) (by omega)
    rw [wY_wipe_12]
    refine br_f (nI_ge (b := 7) (by omega) (by omega)) ⟨vp_in_nI (by omega) (by omega), fun y ey w ew => ?_⟩
    rw [nI_clamp (by omega), show (-1 : Int32) = ar_i 0 from rfl, ar_uO] at ey
    rw [ey, ew, nI_1]
    exact i1
end
theorem i_vc_wipe {k : Nat} {u : SX} {v : SY} (I : i_Rel k u v) (hk : k + 6 ≤ 3072) : wpX_wipe (fun r u' => wpY_wipe (fun r' v' => r' = r ∧ i_Rel (k + 6) u' v') v) u := by
  refine re_el (P := fun u v => wpX_wipe (fun r u' => wpY_wipe (fun r' v' => r' = r ∧ i_Rel (k + 6) u' v') v) u) ?_ I
  intro st nd bu nx wk gi ad xad xga xto yad yts yga kd sb tc sg wd fa ww so rg ce nm xdn xsn xpr xcl ct nb sy vl pv pc gv dn wo pp yo wh wt wi tr tg cd ws gs xcd xws xon xgu xlf xrt xlv ybs ycs ywd ycd yws ygu yone ytwo ylv xtr hR
  obtain ⟨hM, hB, hO, hV, hQ, hP, hC, hL, hk20⟩ := hR
  have hst := hM.1
  have hn := hO.2.2.2.2
  unfold wpX_wipe wpY_wipe
  dsimp only
  refine xq_chg hst.2.1 hO (by omega) ?_
  dsimp only
  refine ⟨8, ?_⟩
  refine xq_wipe16 (nd := 0) (so := so) ⟨7, ?_⟩ 7 0 (by omega)
  refine xq_wipe37 (nd := 0) (gs := gs) ?_ 6 0 (by omega)
  refine ⟨8, ?_⟩
  refine yq_wipe12 (nd := 0) (so := so) ⟨7, ?_⟩ 7 0 (by omega)
  refine yq_wipe33 (nd := 0) (gs := gs) ?_ 6 0 (by omega)
  refine ⟨rfl, ?_⟩
  refine re_in (re_idle (nd := 0) (so := ar_fl so 0 7) (gs := ar_fg gs 9 6) (cd := cd) (ws := ws) (ad := ad) ⟨⟨hst.1, hst.2.1, by omega⟩, fun n h => absurd h (by omega), fun r hr => ?_, fun t ht => ?_, fun h => ?_⟩ hQ.2.2 hC hL (by omega))
  · obtain ⟨w1, w2, w3⟩ := hM.2.2.1 r hr
    rw [ar_fgI gs 9 6 r hr]
    exact ⟨w1, w2, by decide⟩
  · rw [ar_flI so 0 7 t ht]
    exact ⟨by omega, fun h => absurd rfl h⟩
  · exact absurd (ar_flI so 0 7 6 (by omega)) h
end
section
/-! width -/
section
variable {st nd bu nx wk kc1 kc0 kc2 kc3 kc4 kc5 kc6 kc7 gi ad : Nat} {xad xga xto yad yts yga : Int32} {kd sb tc sg wd fa ww so rg ce nm xdn xsn xpr xcl ct nb sy vl pv pc gv dn wo pp yo wh wt wi tr tg cd ws : Nat → Nat} {gs xcd xws xon xgu xlf xrt xlv ybs ycs ywd ycd yws ygu yone ytwo ylv : Nat → Int32} {xtr : Nat → Int64}
theorem xq_width49 (hd : nd ≤ 24) (hn : ∀ n, n < nd → kd n ≤ 9 ∧ (kd n = 0 → fa n < 65536) ∧ (kd n = 1 → fa n < 6) ∧ (2 ≤ kd n → fa n < n) ∧ (3 ≤ kd n → sb n < n) ∧ (kd n = 9 → tc n < n) ∧ sb n < 24) (hw : ∀ r, r < 6 → 1 ≤ ww r ∧ ww r ≤ 16) : ∀ d n (wd : Nat → Nat), n + d = nd → (∀ m, m < n → wd m = re_w kd fa sb tc ww wd m ∧ 1 ≤ wd m ∧ wd m ≤ 16) →
    ∃ wd' : Nat → Nat, (∀ m, m < nd → wd' m = re_w kd fa sb tc ww wd' m) ∧ ∀ poss : Int32 → SX → Prop, poss 1 (nI st, nI nd, nI bu, xad, nI nx, xga, xto, ar_N kd, ar_N sb, ar_N tc, ar_N sg, ar_N wd', ar_N fa, ar_N ww, gs, ar_O so, xcd, xws, ar_N rg, ar_N ce, ar_O nm, xon, xgu, ar_N xdn, ar_N xsn, ar_N xpr, ar_N xcl, xtr, ar_N ct, xlf, xrt, xlv) → wX_width_49 poss (nI st) (nI nd) (nI bu) xad (nI nx) xga xto (d + 1) (nI n) (ar_N kd) (ar_N sb) (ar_N tc) (ar_N sg) (ar_N wd) (ar_N fa) (ar_N ww) gs (ar_O so) xcd xws (ar_N rg) (ar_N ce) (ar_O nm) xon xgu (ar_N xdn) (ar_N xsn) (ar_N xpr) (ar_N xcl) xtr (ar_N ct) xlf xrt xlv := by
  intro d
  induction d with
  | zero =>
    intro n wd hj hI
    have e : n = nd := by omega
    subst e
    refine ⟨wd, fun m hm => (hI m hm).1, fun poss hp => ?_⟩
    rw [wX_width_49]
    exact br_t (nI_le (Nat.le_refl _) (by omega)) hp
  | succ d ih =>
    intro n wd hj hI
    obtain ⟨b1, b2, b3, b4, b5, b6, b7⟩ := hn n (by omega)
    have bd := re_wb (kd := kd) (fa := fa) (sb := sb) (tc := tc) (ww := ww) (wd := wd) (n := n) b1 b2 (fun h => hw _ (b3 h)) (fun h => (hI _ (b4 (by omega))).2) (fun h => (hI _ (b5 h)).2) (fun h => (hI _ (b6 h)).2)
    have same : ∀ m, m ≤ n → re_w kd fa sb tc ww (ar_u wd n (re_w kd fa sb tc ww wd n)) m = re_w kd fa sb tc ww wd m := by
      intro m hm
      obtain ⟨-, -, -, c4, c5, c6, -⟩ := hn m (by omega)
      refine re_wC rfl rfl rfl rfl (fun h => ar_un ?_) (fun h => ar_un ?_) (fun h => ar_un ?_)
      · have := c4 (by omega); omega
      · have := c5 h; omega
      · have := c6 h; omega
    obtain ⟨wd', i1, i2⟩ := ih (n + 1) (ar_u wd n (re_w kd fa sb tc ww wd n)) (by omega) (fun m hm => by
      rw [same m (by omega)]
      by_cases e : m = n
      · subst e
        rw [ar_us]
        exact ⟨rfl, bd⟩
      · rw [ar_un e]
        exact hI m (by omega))
    refine ⟨wd', i1, fun poss hp => ?_⟩
    rw [wX_width_49]
    refine br_f (nI_ge (by omega) (by omega)) ?_
    refine xq_widthOf (by omega) b1 b2 b3 (fun h => by have := b4 (by omega); omega) b7 (fun h => by have := b6 h; omega) (fun h => by have := (hI _ (b4 (by omega))).2; omega) (fun h => by have := (hI _ (b5 h)).2; omega) (fun h => by have := (hI _ (b6 h)).2; omega) ?_
    refine ⟨vp_in_nI (by omega) (by omega), fun y ey w ew => ?_⟩
    rw [nI_clamp (by omega), ar_by _ (by omega), ar_uN] at ey
    rw [ey, ew, nI_1]
    exact i2 poss hp
end
theorem i_vc_width {k : Nat} {u : SX} {v : SY} (I : i_Rel k u v) (hk : k + 6 ≤ 3072) (v1 : Int32) (v2 : Int32) : wpX_width (fun r u' => wpY_width (fun r' v' => r' = r ∧ i_Rel (k + 6) u' v') v v1 v2) u v1 v2 := by
  refine re_el (P := fun u v => wpX_width (fun r u' => wpY_width (fun r' v' => r' = r ∧ i_Rel (k + 6) u' v') v v1 v2) u v1 v2) ?_ I
  intro st nd bu nx wk gi ad xad xga xto yad yts yga kd sb tc sg wd fa ww so rg ce nm xdn xsn xpr xcl ct nb sy vl pv pc gv dn wo pp yo wh wt wi tr tg cd ws gs xcd xws xon xgu xlf xrt xlv ybs ycs ywd ycd yws ygu yone ytwo ylv xtr hR
  have J := re_in (re_up (show k ≤ k + 6 by omega) hR)
  obtain ⟨hM, hB, hO, hV, hQ, hP, hC, hL, hk20⟩ := hR
  have hst := hM.1
  have hn := hO.2.2.2.2
  unfold wpX_width wpY_width
  dsimp only
  have bad : ∀ poss : Int32 → SY → Prop, poss 0 (nI st, nI nd, nI bu, yad, nI wk, nI nx, nI (ct 1), nI (ct 0), nI (ct 2), nI (ct 3), nI (ct 4), nI (ct 5), nI (ct 6), nI (ct 7), yts, nI gi, yga, ar_N ww, ar_N rg, ar_N ce, gs, ar_N kd, ar_N fa, ybs, ycs, ar_N sg, ywd, ar_O so, ycd, yws, ar_N nb, ar_N sy, ar_N vl, ar_N pv, ar_N pc, ygu, ar_N gv, ar_N dn, ar_N wo, ar_N pp, ar_N yo, ar_N wh, ar_N wt, ar_N wi, ar_N tr, ar_N tg, yone, ytwo, ylv) → wY_width_23 poss v1 v2 (nI st) (nI nd) (nI bu) yad (nI wk) (nI nx) (nI (ct 1)) (nI (ct 0)) (nI (ct 2)) (nI (ct 3)) (nI (ct 4)) (nI (ct 5)) (nI (ct 6)) (nI (ct 7)) yts (nI gi) yga (ar_N ww) (ar_N rg) (ar_N ce) gs (ar_N kd) (ar_N fa) ybs ycs (ar_N sg) ywd (ar_O so) ycd yws (ar_N nb) (ar_N sy) (ar_N vl) (ar_N pv) (ar_N pc) ygu (ar_N gv) (ar_N dn) (ar_N wo) (ar_N pp) (ar_N yo) (ar_N wh) (ar_N wt) (ar_N wi) (ar_N tr) (ar_N tg) yone ytwo ylv := by
    intro poss hp
    unfold wY_width_23 wY_width_24
    refine br_t rfl ?_
    unfold wY_width_52
    exact yq_leave0 ⟨rfl, hp⟩
  rcases pk_ix v1 (n := 6) (by omega) with h | h | ⟨r, h, rfl⟩
  · exact xq_isRegF (Or.inl h) (br_t rfl (yq_inF (Or.inl h) (br_t rfl (bad _ ⟨rfl, J⟩))))
  · exact xq_isRegF (Or.inr h) (br_t rfl (yq_inF (Or.inr h) (br_t rfl (bad _ ⟨rfl, J⟩))))
  refine xq_isRegT h (br_f (by decide) ?_)
  rcases pk_ix v2 (n := 17) (by omega) with h2 | h2 | ⟨j, h2, rfl⟩
  · refine xq_inF (Or.inl (Int32.lt_trans h2 (by decide))) (br_t rfl ?_)
    exact yq_in (b := 6) (by omega) h (br_f (by decide) (br_t (Int32.le_of_lt h2) (bad _ ⟨rfl, J⟩)))
  · have h5 : (16 : Int32) < v2 := by
      rw [Int32.le_iff_toInt_le, nI_toInt (by omega)] at h2
      rw [Int32.lt_iff_toInt_lt, show (16 : Int32).toInt = 16 from rfl]
      omega
    have h0 : ¬ v2 ≤ 0 := by
      rw [Int32.lt_iff_toInt_lt, show (16 : Int32).toInt = 16 from rfl] at h5
      rw [Int32.le_iff_toInt_le, show (0 : Int32).toInt = 0 from rfl]
      omega
    refine xq_inF (Or.inr h5) (br_t rfl ?_)
    exact yq_in (b := 6) (by omega) h (br_f (by decide) (br_f h0 (br_t h2 (bad _ ⟨rfl, J⟩))))
  by_cases j0 : j = 0
  · subst j0
    refine xq_inF (Or.inl (by decide)) (br_t rfl ?_)
    exact yq_in (b := 6) (by omega) h (br_f (by decide) (br_t (by decide) (bad _ ⟨rfl, J⟩)))
  have b := vp_in_nI h (show 6 < 2 ^ 31 by omega)
  have hrg : rg r < 65536 := Nat.lt_of_lt_of_le (hC.1 r h) (ar_p16 (hM.2.2.1 r h).2.1)
  have ecut : nI (rg r) &&& (((1 : Int32) <<< (nI j &&& 31)) - 1) = nI (rg r % 2 ^ j) := ar_cutN (by omega) (by omega)
  have hww : ∀ r', r' < 6 → 1 ≤ ar_u ww r j r' ∧ ar_u ww r j r' ≤ 16 := by
    intro r' hr'
    unfold ar_u
    by_cases e : r' = r
    · rw [if_pos e]; omega
    · rw [if_neg e]; exact ⟨(hM.2.2.1 r' hr').1, (hM.2.2.1 r' hr').2.1⟩
  refine xq_in (a := 1) (b := 16) (by omega) (by omega) (by omega) (by omega) (by omega) (br_f (by decide) ?_)
  refine xq_chg hst.2.1 hO (by omega) ?_
  dsimp only
  obtain ⟨wd', w1, w2⟩ := xq_width49 (st := st) (nd := nd) (bu := 0) (xad := xad) (nx := ct 1) (xga := xga) (xto := xto) (kd := kd) (sb := sb) (tc := tc) (sg := sg) (fa := fa) (ww := ar_u ww r j) (gs := gs) (so := so) (xcd := xcd) (xws := xws) (rg := ar_u rg r (rg r % 2 ^ j)) (ce := ce) (nm := ar_nz) (xon := xon) (xgu := xgu) (xdn := xdn) (xsn := xsn) (xpr := xpr) (xcl := xcl) (xtr := xtr) (ct := ct) (xlf := xlf) (xrt := xrt) (xlv := xlv) hst.2.2 (fun n hn => by
    obtain ⟨b1, b2, b3, b4, b5, b6, b7, -⟩ := hM.2.1 n hn
    exact ⟨b1, b2, b3, b4, fun q => (b5 q).1, fun q => (b6 q).1, b7⟩) hww nd 0 wd (by omega) (fun m hm => absurd hm (by omega))
  rw [nI_clamp (by omega), ar_by _ (by omega), ar_uN, ar_Nap]
  refine ⟨b, fun y ey => ⟨b, ?_⟩⟩
  unfold wpX_cut
  rw [ecut]
  refine ⟨b, fun z ez => ⟨nd + 1, ?_⟩⟩
  rw [ar_uN] at ez
  rw [ey, ez]
  refine w2 _ ?_
  refine yq_in (b := 6) (by omega) h (br_f (by decide) (br_f (nI_nle (by omega) (by omega)) (br_f (nI_ge (b := 17) (by omega) (by omega)) ?_)))
  unfold wY_width_24
  rw [nI_clamp (by omega), ar_uN, ar_Nap]
  refine br_f (by decide) ⟨b, fun a ea => ⟨b, ?_⟩⟩
  unfold wpY_cut
  rw [ecut]
  refine ⟨b, fun c ec => ?_⟩
  rw [ar_uN] at ec
  rw [ea, ec]
  unfold wY_width_52
  refine yq_leave1 ⟨rfl, rfl, ?_⟩
  refine re_in (re_idle (ww := ar_u ww r j) (wd := wd') (rg := ar_u rg r (rg r % 2 ^ j)) (cd := cd) (ws := ws) (ad := ad) ⟨hst, fun n hn => ?_, fun r' hr' => ⟨(hww r' hr').1, (hww r' hr').2, (hM.2.2.1 r' hr').2.2⟩, hM.2.2.2⟩ hQ.2.2 ⟨fun r' hr' => ?_, hC.2⟩ hL (by omega))
  · obtain ⟨b1, b2, b3, b4, b5, b6, b7, b8, b9⟩ := hM.2.1 n hn
    exact ⟨b1, b2, b3, b4, b5, b6, b7, b8, w1 n hn⟩
  · unfold ar_u
    by_cases e : r' = r
    · rw [if_pos e, if_pos e]; exact Nat.mod_lt _ (Nat.two_pow_pos _)
    · rw [if_neg e, if_neg e]; exact hC.1 r' hr'
end
section
/-! writes and the store -/
section
variable {st nd bu nx wk kc1 kc0 kc2 kc3 kc4 kc5 kc6 kc7 gi ad : Nat} {xad xga xto yad yts yga : Int32} {kd sb tc sg wd fa ww so rg ce nm xdn xsn xpr xcl ct nb sy vl pv pc gv dn wo pp yo wh wt wi tr tg cd ws : Nat → Nat} {gs xcd xws xon xgu xlf xrt xlv ybs ycs ywd ycd yws ygu yone ytwo ylv : Nat → Int32} {xtr : Nat → Int64}
variable {post : Int32 → Prop} {poss : Int32 → SX → Prop} {pos2 : Int32 → SY → Prop} {posu : SY → Prop}
theorem re_Mset {t m d s ad' : Nat} {cx cy sx sy' xad' yad' : Int32} (hM : re_M st nd kd fa sb tc sg wd ww so cd ws ad gs xcd xws ycd yws ybs ycs xad yad) (hm : m ≤ nd) (h : m ≠ 0 → cx = ar_i d ∧ cy = ar_i d ∧ d ≤ nd ∧ sx = nI s ∧ sy' = nI s ∧ s ≤ 4) (h6 : ar_u so t m 6 ≠ 0 → xad' = nI ad' ∧ yad' = nI ad' ∧ ad' < nd) : re_M st nd kd fa sb tc sg wd ww (ar_u so t m) (ar_u cd t d) (ar_u ws t s) ad' gs (upd xcd t cx) (upd xws t sx) (upd ycd t cy) (upd yws t sy') ybs ycs xad' yad' := by
  refine ⟨hM.1, hM.2.1, hM.2.2.1, fun t' ht' => ?_, h6⟩
  obtain ⟨s1, s2⟩ := hM.2.2.2.1 t' ht'
  by_cases e : t' = t
  · subst e
    rw [ar_us, ar_us, ar_us, pk_us, pk_us, pk_us, pk_us]
    exact ⟨hm, h⟩
  · rw [ar_un e, ar_un e, ar_un e, pk_un e, pk_un e, pk_un e, pk_un e]
    exact ⟨s1, s2⟩
theorem ar_cbad {c : Int32} {n : Nat} (hn : n < 2 ^ 30) (h1 : ¬ c = -1) (h : c < 0 ∨ nI n ≤ c) : c + 1 < 0 ∨ nI n + 1 ≤ c + 1 := by
  have b1 := c.le_toInt
  have b2 := c.toInt_lt
  have e0 : (0 : Int32).toInt = 0 := rfl
  have e1 : (1 : Int32).toInt = 1 := rfl
  have em : (-1 : Int32).toInt = -1 := rfl
  have hm : c.toInt ≠ -1 := fun q => h1 (Int32.toInt_inj.mp (q.trans em.symm))
  rw [nI_1]
  rcases h with h | h
  · left
    rw [Int32.lt_iff_toInt_lt, e0] at h ⊢
    rw [Int32.toInt_add, e1, Int.bmod_eq_of_le (by omega) (by omega)]
    omega
  · rw [Int32.le_iff_toInt_le, nI_toInt (by omega)] at h
    by_cases z : c.toInt = 2147483647
    · left
      have e : c = 2147483647 := Int32.toInt_inj.mp (z.trans rfl)
      rw [e]
      decide
    · right
      rw [Int32.le_iff_toInt_le, nI_toInt (by omega), Int32.toInt_add, e1, Int.bmod_eq_of_le (by omega) (by omega)]
      omega
theorem xq_set38 {t m : Nat} {v c s : Int32} (ht : t < 7) (hst : st ≤ 5) (hO : re_O st wk nx (ct 1) nm nb sy) (hc : ct 1 + wk < 2 ^ 31) (hv : vp_nar .byte v.toInt8.toInt32 = ar_i m) (hp : poss 1 (nI st, nI nd, nI 0, xad, nI (ct 1), xga, xto, ar_N kd, ar_N sb, ar_N tc, ar_N sg, ar_N wd, ar_N fa, ar_N ww, gs, ar_O (ar_u so t m), upd xcd t (vp_nar .byte c.toInt8.toInt32), upd xws t (vp_nar .byte s.toInt8.toInt32), ar_N rg, ar_N ce, ar_O ar_nz, xon, xgu, ar_N xdn, ar_N xsn, ar_N xpr, ar_N xcl, xtr, ar_N ct, xlf, xrt, xlv)) : wX_set_38 poss (nI t) v c s (nI st) (nI nd) (nI bu) xad (nI nx) xga xto (ar_N kd) (ar_N sb) (ar_N tc) (ar_N sg) (ar_N wd) (ar_N fa) (ar_N ww) gs (ar_O so) xcd xws (ar_N rg) (ar_N ce) (ar_O nm) xon xgu (ar_N xdn) (ar_N xsn) (ar_N xpr) (ar_N xcl) xtr (ar_N ct) xlf xrt xlv := by
  have b := vp_in_nI ht (show 7 < 2 ^ 31 by omega)
  unfold wX_set_38
  refine xq_chg hst hO hc ?_
  dsimp only
  rw [nI_clamp (by omega), hv, ar_uO]
  exact ⟨b, fun x ex => ⟨b, fun y ey => ⟨b, fun z ez => by rw [ex, ey, ez]; exact hp⟩⟩⟩
theorem yq_set {t m : Nat} {v c s : Int32} (ht : t < 7) (hv : v = ar_i m) (hp : posu (nI st, nI nd, nI bu, yad, nI wk, nI nx, nI kc1, nI kc0, nI kc2, nI kc3, nI kc4, nI kc5, nI kc6, nI kc7, yts, nI gi, yga, ar_N ww, ar_N rg, ar_N ce, gs, ar_N kd, ar_N fa, ybs, ycs, ar_N sg, ywd, ar_O (ar_u so t m), upd ycd t c, upd yws t s, ar_N nb, ar_N sy, ar_N vl, ar_N pv, ar_N pc, ygu, ar_N gv, ar_N dn, ar_N wo, ar_N pp, ar_N yo, ar_N wh, ar_N wt, ar_N wi, ar_N tr, ar_N tg, yone, ytwo, ylv)) : wpY_set posu (nI st, nI nd, nI bu, yad, nI wk, nI nx, nI kc1, nI kc0, nI kc2, nI kc3, nI kc4, nI kc5, nI kc6, nI kc7, yts, nI gi, yga, ar_N ww, ar_N rg, ar_N ce, gs, ar_N kd, ar_N fa, ybs, ycs, ar_N sg, ywd, ar_O so, ycd, yws, ar_N nb, ar_N sy, ar_N vl, ar_N pv, ar_N pc, ygu, ar_N gv, ar_N dn, ar_N wo, ar_N pp, ar_N yo, ar_N wh, ar_N wt, ar_N wi, ar_N tr, ar_N tg, yone, ytwo, ylv) (nI t) v c s := by
  have b := vp_in_nI ht (show 7 < 2 ^ 31 by omega)
  unfold wpY_set
  dsimp only
  rw [nI_clamp (by omega), hv, ar_uO]
  exact ⟨b, fun x ex => ⟨b, fun y ey => ⟨b, fun z ez => by rw [ex, ey, ez]; exact hp⟩⟩⟩
/-- whether a write's value, condition and stage are good: both sides -/
theorem pr_good {v c s : Int32} (hd : nd ≤ 24) (hv : ¬ v = -1) :
    (∃ m d s' : Nat, m < nd ∧ d ≤ nd ∧ s' < 5 ∧ v = nI m ∧ c = ar_i d ∧ s = nI s' ∧ (∀ (poss : Int32 → SX → Prop) (t : Nat), wX_set_38 poss (nI t) v c s (nI st) (nI nd) (nI bu) xad (nI nx) xga xto (ar_N kd) (ar_N sb) (ar_N tc) (ar_N sg) (ar_N wd) (ar_N fa) (ar_N ww) gs (ar_O so) xcd xws (ar_N rg) (ar_N ce) (ar_O nm) xon xgu (ar_N xdn) (ar_N xsn) (ar_N xpr) (ar_N xcl) xtr (ar_N ct) xlf xrt xlv → wpX_set poss (nI st, nI nd, nI bu, xad, nI nx, xga, xto, ar_N kd, ar_N sb, ar_N tc, ar_N sg, ar_N wd, ar_N fa, ar_N ww, gs, ar_O so, xcd, xws, ar_N rg, ar_N ce, ar_O nm, xon, xgu, ar_N xdn, ar_N xsn, ar_N xpr, ar_N xcl, xtr, ar_N ct, xlf, xrt, xlv) (nI t) v c s) ∧ (∀ post : Int32 → Prop, post 1 → wpY_isWrite post (nI st, nI nd, nI bu, yad, nI wk, nI nx, nI kc1, nI kc0, nI kc2, nI kc3, nI kc4, nI kc5, nI kc6, nI kc7, yts, nI gi, yga, ar_N ww, ar_N rg, ar_N ce, gs, ar_N kd, ar_N fa, ybs, ycs, ar_N sg, ywd, ar_O so, ycd, yws, ar_N nb, ar_N sy, ar_N vl, ar_N pv, ar_N pc, ygu, ar_N gv, ar_N dn, ar_N wo, ar_N pp, ar_N yo, ar_N wh, ar_N wt, ar_N wi, ar_N tr, ar_N tg, yone, ytwo, ylv) v c s)) ∨
    ((∀ (poss : Int32 → SX → Prop) (t : Nat), poss 0 (nI st, nI nd, nI bu, xad, nI nx, xga, xto, ar_N kd, ar_N sb, ar_N tc, ar_N sg, ar_N wd, ar_N fa, ar_N ww, gs, ar_O so, xcd, xws, ar_N rg, ar_N ce, ar_O nm, xon, xgu, ar_N xdn, ar_N xsn, ar_N xpr, ar_N xcl, xtr, ar_N ct, xlf, xrt, xlv) → wpX_set poss (nI st, nI nd, nI bu, xad, nI nx, xga, xto, ar_N kd, ar_N sb, ar_N tc, ar_N sg, ar_N wd, ar_N fa, ar_N ww, gs, ar_O so, xcd, xws, ar_N rg, ar_N ce, ar_O nm, xon, xgu, ar_N xdn, ar_N xsn, ar_N xpr, ar_N xcl, xtr, ar_N ct, xlf, xrt, xlv) (nI t) v c s) ∧ (∀ post : Int32 → Prop, post 0 → wpY_isWrite post (nI st, nI nd, nI bu, yad, nI wk, nI nx, nI kc1, nI kc0, nI kc2, nI kc3, nI kc4, nI kc5, nI kc6, nI kc7, yts, nI gi, yga, ar_N ww, ar_N rg, ar_N ce, gs, ar_N kd, ar_N fa, ybs, ycs, ar_N sg, ywd, ar_O so, ycd, yws, ar_N nb, ar_N sy, ar_N vl, ar_N pv, ar_N pc, ygu, ar_N gv, ar_N dn, ar_N wo, ar_N pp, ar_N yo, ar_N wh, ar_N wt, ar_N wi, ar_N tr, ar_N tg, yone, ytwo, ylv) v c s)) := by
  rcases pk_ix v (n := nd) (by omega) with h | h | ⟨m, h, rfl⟩
  · refine Or.inr ⟨fun poss t hp => ?_, fun post hp => ?_⟩
    · unfold wpX_set; dsimp only
      exact br_f hv (xq_isNodeF hd (Or.inl h) (br_t rfl hp))
    · unfold wpY_isWrite; dsimp only
      exact yq_inF (Or.inl h) (br_t rfl hp)
  · refine Or.inr ⟨fun poss t hp => ?_, fun post hp => ?_⟩
    · unfold wpX_set; dsimp only
      exact br_f hv (xq_isNodeF hd (Or.inr h) (br_t rfl hp))
    · unfold wpY_isWrite; dsimp only
      exact yq_inF (Or.inr h) (br_t rfl hp)
  -- the condition
  have cond : (∃ d : Nat, d ≤ nd ∧ c = ar_i d ∧ ∀ (poss : Int32 → SX → Prop) (t : Nat), wX_set_26 poss (nI t) (nI m) c s (nI st) (nI nd) (nI bu) xad (nI nx) xga xto (ar_N kd) (ar_N sb) (ar_N tc) (ar_N sg) (ar_N wd) (ar_N fa) (ar_N ww) gs (ar_O so) xcd xws (ar_N rg) (ar_N ce) (ar_O nm) xon xgu (ar_N xdn) (ar_N xsn) (ar_N xpr) (ar_N xcl) xtr (ar_N ct) xlf xrt xlv → wpX_set poss (nI st, nI nd, nI bu, xad, nI nx, xga, xto, ar_N kd, ar_N sb, ar_N tc, ar_N sg, ar_N wd, ar_N fa, ar_N ww, gs, ar_O so, xcd, xws, ar_N rg, ar_N ce, ar_O nm, xon, xgu, ar_N xdn, ar_N xsn, ar_N xpr, ar_N xcl, xtr, ar_N ct, xlf, xrt, xlv) (nI t) (nI m) c s) ∨ ((c + 1 < 0 ∨ nI nd + 1 ≤ c + 1) ∧ ∀ (poss : Int32 → SX → Prop) (t : Nat), poss 0 (nI st, nI nd, nI bu, xad, nI nx, xga, xto, ar_N kd, ar_N sb, ar_N tc, ar_N sg, ar_N wd, ar_N fa, ar_N ww, gs, ar_O so, xcd, xws, ar_N rg, ar_N ce, ar_O nm, xon, xgu, ar_N xdn, ar_N xsn, ar_N xpr, ar_N xcl, xtr, ar_N ct, xlf, xrt, xlv) → wpX_set poss (nI st, nI nd, nI bu, xad, nI nx, xga, xto, ar_N kd, ar_N sb, ar_N tc, ar_N sg, ar_N wd, ar_N fa, ar_N ww, gs, ar_O so, xcd, xws, ar_N rg, ar_N ce, ar_O nm, xon, xgu, ar_N xdn, ar_N xsn, ar_N xpr, ar_N xcl, xtr, ar_N ct, xlf, xrt, xlv) (nI t) (nI m) c s) := by
    by_cases c1 : c = -1
    · refine Or.inl ⟨0, by omega, c1, fun poss t hp => ?_⟩
      unfold wpX_set; dsimp only
      exact br_f hv (xq_isNodeT hd h (br_f (by decide) (br_t c1 hp)))
    · rcases pk_ix c (n := nd) (by omega) with h2 | h2 | ⟨d, h2, rfl⟩
      · refine Or.inr ⟨ar_cbad (by omega) c1 (Or.inl h2), fun poss t hp => ?_⟩
        unfold wpX_set; dsimp only
        exact br_f hv (xq_isNodeT hd h (br_f (by decide) (br_f c1 (xq_isNodeF hd (Or.inl h2) (br_t rfl hp)))))
      · refine Or.inr ⟨ar_cbad (by omega) c1 (Or.inr h2), fun poss t hp => ?_⟩
        unfold wpX_set; dsimp only
        exact br_f hv (xq_isNodeT hd h (br_f (by decide) (br_f c1 (xq_isNodeF hd (Or.inr h2) (br_t rfl hp)))))
      · refine Or.inl ⟨d + 1, by omega, rfl, fun poss t hp => ?_⟩
        unfold wpX_set; dsimp only
        exact br_f hv (xq_isNodeT hd h (br_f (by decide) (br_f c1 (xq_isNodeT hd h2 (br_f (by decide) hp)))))
  rcases cond with ⟨d, hdn, rfl, cX⟩ | ⟨cb, cX⟩
  · rcases pk_ix s (n := 5) (by omega) with h3 | h3 | ⟨s', h3, rfl⟩
    · refine Or.inr ⟨fun poss t hp => cX poss t ?_, fun post hp => ?_⟩
      · unfold wX_set_26
        exact xq_in1F (n := 5) (by omega) (Or.inl h3) (br_t rfl hp)
      · unfold wpY_isWrite; dsimp only
        refine yq_in (by omega) h (br_f (by decide) ?_)
        rw [show ar_i d + 1 = nI d from ar_inc d, nI_1]
        exact yq_in (by omega) (by omega) (br_f (by decide) (yq_inF (Or.inl h3) (br_t rfl hp)))
    · refine Or.inr ⟨fun poss t hp => cX poss t ?_, fun post hp => ?_⟩
      · unfold wX_set_26
        exact xq_in1F (n := 5) (by omega) (Or.inr h3) (br_t rfl hp)
      · unfold wpY_isWrite; dsimp only
        refine yq_in (by omega) h (br_f (by decide) ?_)
        rw [show ar_i d + 1 = nI d from ar_inc d, nI_1]
        exact yq_in (by omega) (by omega) (br_f (by decide) (yq_inF (Or.inr h3) (br_t rfl hp)))
    · refine Or.inl ⟨m, d, s', h, hdn, h3, rfl, rfl, rfl, fun poss t hp => cX poss t ?_, fun post hp => ?_⟩
      · unfold wX_set_26
        exact xq_in1T (n := 5) (by omega) h3 (br_f (by decide) hp)
      · unfold wpY_isWrite; dsimp only
        refine yq_in (by omega) h (br_f (by decide) ?_)
        rw [show ar_i d + 1 = nI d from ar_inc d, nI_1]
        exact yq_in (by omega) (by omega) (br_f (by decide) (yq_in (b := 5) (by omega) h3 (br_f (by decide) hp)))
  · refine Or.inr ⟨cX, fun post hp => ?_⟩
    unfold wpY_isWrite; dsimp only
    exact yq_in (by omega) h (br_f (by decide) (yq_inF cb (br_t rfl hp)))
theorem ar_byi {d : Nat} (h : d ≤ 24) : vp_nar .byte (ar_i d).toInt8.toInt32 = ar_i d := by
  cases d with
  | zero => exact ar_by2
  | succ d => exact ar_by d (by omega)
end
theorem i_vc_write {k : Nat} {u : SX} {v : SY} (I : i_Rel k u v) (hk : k + 6 ≤ 3072) (v1 : Int32) (v2 : Int32) (v3 : Int32) (v4 : Int32) : wpX_write (fun r u' => wpY_write (fun r' v' => r' = r ∧ i_Rel (k + 6) u' v') v v1 v2 v3 v4) u v1 v2 v3 v4 := by
  refine re_el (P := fun u v => wpX_write (fun r u' => wpY_write (fun r' v' => r' = r ∧ i_Rel (k + 6) u' v') v v1 v2 v3 v4) u v1 v2 v3 v4) ?_ I
  intro st nd bu nx wk gi ad xad xga xto yad yts yga kd sb tc sg wd fa ww so rg ce nm xdn xsn xpr xcl ct nb sy vl pv pc gv dn wo pp yo wh wt wi tr tg cd ws gs xcd xws xon xgu xlf xrt xlv ybs ycs ywd ycd yws ygu yone ytwo ylv xtr hR
  have J := re_in (re_up (show k ≤ k + 6 by omega) hR)
  obtain ⟨hM, hB, hO, hV, hQ, hP, hC, hL, hk20⟩ := hR
  have hst := hM.1
  have hn := hO.2.2.2.2
  unfold wpX_write wpY_write
  dsimp only
  have bad : ∀ (w : Int32) (poss : Int32 → SY → Prop), poss 0 (nI st, nI nd, nI bu, yad, nI wk, nI nx, nI (ct 1), nI (ct 0), nI (ct 2), nI (ct 3), nI (ct 4), nI (ct 5), nI (ct 6), nI (ct 7), yts, nI gi, yga, ar_N ww, ar_N rg, ar_N ce, gs, ar_N kd, ar_N fa, ybs, ycs, ar_N sg, ywd, ar_O so, ycd, yws, ar_N nb, ar_N sy, ar_N vl, ar_N pv, ar_N pc, ygu, ar_N gv, ar_N dn, ar_N wo, ar_N pp, ar_N yo, ar_N wh, ar_N wt, ar_N wi, ar_N tr, ar_N tg, yone, ytwo, ylv) → wY_write_29 poss w v2 v3 v4 (nI st) (nI nd) (nI bu) yad (nI wk) (nI nx) (nI (ct 1)) (nI (ct 0)) (nI (ct 2)) (nI (ct 3)) (nI (ct 4)) (nI (ct 5)) (nI (ct 6)) (nI (ct 7)) yts (nI gi) yga (ar_N ww) (ar_N rg) (ar_N ce) gs (ar_N kd) (ar_N fa) ybs ycs (ar_N sg) ywd (ar_O so) ycd yws (ar_N nb) (ar_N sy) (ar_N vl) (ar_N pv) (ar_N pc) ygu (ar_N gv) (ar_N dn) (ar_N wo) (ar_N pp) (ar_N yo) (ar_N wh) (ar_N wt) (ar_N wi) (ar_N tr) (ar_N tg) yone ytwo ylv := by
    intro w poss hp
    unfold wY_write_29 wY_write_30
    refine br_t rfl ?_
    unfold wY_write_46
    exact yq_leave0 ⟨rfl, hp⟩
  rcases pk_ix v1 (n := 6) (by omega) with h | h | ⟨t, h, rfl⟩
  · exact xq_isRegF (Or.inl h) (br_t rfl (yq_inF (Or.inl h) (br_t rfl (bad _ _ ⟨rfl, J⟩))))
  · exact xq_isRegF (Or.inr h) (br_t rfl (yq_inF (Or.inr h) (br_t rfl (bad _ _ ⟨rfl, J⟩))))
  refine xq_isRegT h (br_f (by decide) ?_)
  have fin : ∀ (m d s : Nat), m ≤ nd → v2 = ar_i m → (m ≠ 0 → v3 = ar_i d ∧ d ≤ nd ∧ v4 = nI s ∧ s ≤ 4) → ∀ pos2 : Int32 → SY → Prop, (∀ v', i_Rel (k + 6) (nI st, nI nd, nI 0, xad, nI (ct 1), xga, xto, ar_N kd, ar_N sb, ar_N tc, ar_N sg, ar_N wd, ar_N fa, ar_N ww, gs, ar_O (ar_u so t m), upd xcd t (vp_nar .byte v3.toInt8.toInt32), upd xws t (vp_nar .byte v4.toInt8.toInt32), ar_N rg, ar_N ce, ar_O ar_nz, xon, xgu, ar_N xdn, ar_N xsn, ar_N xpr, ar_N xcl, xtr, ar_N ct, xlf, xrt, xlv) v' → pos2 1 v') → wY_write_25 pos2 (nI t) v2 v3 v4 (nI st) (nI nd) (nI bu) yad (nI wk) (nI nx) (nI (ct 1)) (nI (ct 0)) (nI (ct 2)) (nI (ct 3)) (nI (ct 4)) (nI (ct 5)) (nI (ct 6)) (nI (ct 7)) yts (nI gi) yga (ar_N ww) (ar_N rg) (ar_N ce) gs (ar_N kd) (ar_N fa) ybs ycs (ar_N sg) ywd (ar_O so) ycd yws (ar_N nb) (ar_N sy) (ar_N vl) (ar_N pv) (ar_N pc) ygu (ar_N gv) (ar_N dn) (ar_N wo) (ar_N pp) (ar_N yo) (ar_N wh) (ar_N wt) (ar_N wi) (ar_N tr) (ar_N tg) yone ytwo ylv := by
    intro m d s hm e2 h3 pos2 hp
    unfold wY_write_25 wY_write_30
    refine br_f (by decide) ?_
    refine yq_set (by omega) e2 ?_
    unfold wY_write_46
    refine yq_leave1 ⟨rfl, hp _ ?_⟩
    refine re_in (re_idle (so := ar_u so t m) (cd := ar_u cd t d) (ws := ar_u ws t s) (ad := ad) (re_Mset hM hm (fun q => ?_) ?_) hQ.2.2 hC hL (by omega))
    · obtain ⟨q1, q2, q3, q4⟩ := h3 q
      rw [q1, q3]
      exact ⟨ar_byi (by omega), rfl, q2, ar_by s (by omega), rfl, q4⟩
    · rw [ar_un (by omega)]
      exact hM.2.2.2.2
  by_cases e2 : v2 = -1
  · unfold wpX_set; dsimp only
    refine br_t e2 ?_
    refine xq_set38 (m := 0) (by omega) hst.2.1 hO (by omega) (by rw [e2]; exact ar_by2) ?_
    refine br_f (by decide) ?_
    refine yq_in (b := 6) (by omega) h (br_f (by decide) (br_t e2 ?_))
    exact fin 0 0 0 (by omega) e2 (fun q => absurd rfl q) _ (fun v' hv' => ⟨rfl, hv'⟩)
  · rcases pr_good (v := v2) (c := v3) (s := v4) hst.2.2 e2 with ⟨m, d, s, q1, q2, q3, rfl, rfl, rfl, gX, gY⟩ | ⟨gX, gY⟩
    · refine gX _ t ?_
      refine xq_set38 (m := m + 1) (by omega) hst.2.1 hO (by omega) (ar_by m (by omega)) ?_
      refine br_f (by decide) ?_
      refine yq_in (b := 6) (by omega) h (br_f (by decide) (br_f e2 ?_))
      refine gY _ (br_f (by decide) ?_)
      exact fin (m + 1) d s (by omega) rfl (fun _ => ⟨rfl, q2, rfl, by omega⟩) _ (fun v' hv' => ⟨rfl, hv'⟩)
    · refine gX _ t (br_t rfl ?_)
      exact yq_in (b := 6) (by omega) h (br_f (by decide) (br_f e2 (gY _ (br_t rfl (bad _ _ ⟨rfl, J⟩)))))
theorem i_vc_store {k : Nat} {u : SX} {v : SY} (I : i_Rel k u v) (hk : k + 6 ≤ 3072) (v1 : Int32) (v2 : Int32) (v3 : Int32) (v4 : Int32) : wpX_store (fun r u' => wpY_store (fun r' v' => r' = r ∧ i_Rel (k + 6) u' v') v v1 v2 v3 v4) u v1 v2 v3 v4 := by
  refine re_el (P := fun u v => wpX_store (fun r u' => wpY_store (fun r' v' => r' = r ∧ i_Rel (k + 6) u' v') v v1 v2 v3 v4) u v1 v2 v3 v4) ?_ I
  intro st nd bu nx wk gi ad xad xga xto yad yts yga kd sb tc sg wd fa ww so rg ce nm xdn xsn xpr xcl ct nb sy vl pv pc gv dn wo pp yo wh wt wi tr tg cd ws gs xcd xws xon xgu xlf xrt xlv ybs ycs ywd ycd yws ygu yone ytwo ylv xtr hR
  have J := re_in (re_up (show k ≤ k + 6 by omega) hR)
  obtain ⟨hM, hB, hO, hV, hQ, hP, hC, hL, hk20⟩ := hR
  have hst := hM.1
  have hn := hO.2.2.2.2
  unfold wpX_store wpY_store
  dsimp only
  have bad : ∀ (poss : Int32 → SY → Prop), poss 0 (nI st, nI nd, nI bu, yad, nI wk, nI nx, nI (ct 1), nI (ct 0), nI (ct 2), nI (ct 3), nI (ct 4), nI (ct 5), nI (ct 6), nI (ct 7), yts, nI gi, yga, ar_N ww, ar_N rg, ar_N ce, gs, ar_N kd, ar_N fa, ybs, ycs, ar_N sg, ywd, ar_O so, ycd, yws, ar_N nb, ar_N sy, ar_N vl, ar_N pv, ar_N pc, ygu, ar_N gv, ar_N dn, ar_N wo, ar_N pp, ar_N yo, ar_N wh, ar_N wt, ar_N wi, ar_N tr, ar_N tg, yone, ytwo, ylv) → wY_store_31 poss v1 v2 v3 v4 (nI st) (nI nd) (nI bu) yad (nI wk) (nI nx) (nI (ct 1)) (nI (ct 0)) (nI (ct 2)) (nI (ct 3)) (nI (ct 4)) (nI (ct 5)) (nI (ct 6)) (nI (ct 7)) yts (nI gi) yga (ar_N ww) (ar_N rg) (ar_N ce) gs (ar_N kd) (ar_N fa) ybs ycs (ar_N sg) ywd (ar_O so) ycd yws (ar_N nb) (ar_N sy) (ar_N vl) (ar_N pv) (ar_N pc) ygu (ar_N gv) (ar_N dn) (ar_N wo) (ar_N pp) (ar_N yo) (ar_N wh) (ar_N wt) (ar_N wi) (ar_N tr) (ar_N tg) yone ytwo ylv := by
    intro poss hp
    unfold wY_store_31 wY_store_32
    refine br_t rfl ?_
    unfold wY_store_62
    exact yq_leave0 ⟨rfl, hp⟩
  have fin : ∀ (m d s a : Nat) (v2' : Int32), m ≤ nd → v2' = ar_i m → (m ≠ 0 → v3 = ar_i d ∧ d ≤ nd ∧ v4 = nI s ∧ s ≤ 4 ∧ v1 = nI a ∧ a < nd) → ∀ pos2 : Int32 → SY → Prop, (∀ v', i_Rel (k + 6) (nI st, nI nd, nI 0, v1, nI (ct 1), xga, xto, ar_N kd, ar_N sb, ar_N tc, ar_N sg, ar_N wd, ar_N fa, ar_N ww, gs, ar_O (ar_u so 6 m), upd xcd 6 (vp_nar .byte v3.toInt8.toInt32), upd xws 6 (vp_nar .byte v4.toInt8.toInt32), ar_N rg, ar_N ce, ar_O ar_nz, xon, xgu, ar_N xdn, ar_N xsn, ar_N xpr, ar_N xcl, xtr, ar_N ct, xlf, xrt, xlv) v' → pos2 1 v') → wY_store_51 pos2 v1 v3 v4 1 v2' 6 (nI st) (nI nd) (nI bu) yad (nI wk) (nI nx) (nI (ct 1)) (nI (ct 0)) (nI (ct 2)) (nI (ct 3)) (nI (ct 4)) (nI (ct 5)) (nI (ct 6)) (nI (ct 7)) yts (nI gi) yga (ar_N ww) (ar_N rg) (ar_N ce) gs (ar_N kd) (ar_N fa) ybs ycs (ar_N sg) ywd (ar_O so) ycd yws (ar_N nb) (ar_N sy) (ar_N vl) (ar_N pv) (ar_N pc) ygu (ar_N gv) (ar_N dn) (ar_N wo) (ar_N pp) (ar_N yo) (ar_N wh) (ar_N wt) (ar_N wi) (ar_N tr) (ar_N tg) yone ytwo ylv := by
    intro m d s a v2' hm e2 h3 pos2 hp
    unfold wY_store_51
    refine yq_set (t := 6) (by omega) e2 ?_
    unfold wY_store_62
    refine yq_leave1 ⟨rfl, hp _ ?_⟩
    refine re_in (re_idle (so := ar_u so 6 m) (cd := ar_u cd 6 d) (ws := ar_u ws 6 s) (ad := a) (xad := v1) (yad := v1) (re_Mset hM hm (fun q => ?_) (fun q => ?_)) hQ.2.2 hC hL (by omega))
    · obtain ⟨q1, q2, q3, q4, -⟩ := h3 q
      rw [q1, q3]
      exact ⟨ar_byi (by omega), rfl, q2, ar_by s (by omega), rfl, q4⟩
    · rw [ar_us] at q
      obtain ⟨q1, q2, q3, q4, q5, q6⟩ := h3 q
      exact ⟨q5, q5, q6⟩
  by_cases e1 : v1 = -1
  · refine br_t e1 ?_
    unfold wX_store_23
    refine br_t e1 ?_
    unfold wX_store_36
    unfold wpX_set; dsimp only
    refine br_t rfl ?_
    refine xq_set38 (t := 6) (m := 0) (by omega) hst.2.1 hO (by omega) ar_by2 ?_
    refine br_f (by decide) ⟨rfl, ?_⟩
    refine br_t e1 ?_
    unfold wY_store_27 wY_store_32
    refine br_f (by decide) (br_f (by rw [e1]; decide) ?_)
    exact fin 0 0 0 0 _ (by omega) rfl (fun q => absurd rfl q) _ (fun v' hv' => ⟨rfl, hv'⟩)
  · refine br_f e1 ?_
    rcases pk_ix v1 (n := nd) (by omega) with h | h | ⟨a, h, rfl⟩
    · exact xq_isNodeF hst.2.2 (Or.inl h) (br_t rfl (br_f e1 (yq_inF (Or.inl h) (br_t rfl (bad _ ⟨rfl, J⟩)))))
    · exact xq_isNodeF hst.2.2 (Or.inr h) (br_t rfl (br_f e1 (yq_inF (Or.inr h) (br_t rfl (bad _ ⟨rfl, J⟩)))))
    refine xq_isNodeT hst.2.2 h (br_f (by decide) ?_)
    rcases pk_ix v2 (n := nd) (by omega) with h2 | h2 | ⟨m, h2, rfl⟩
    · refine xq_isNodeF hst.2.2 (Or.inl h2) (br_t rfl (br_f e1 (yq_in (by omega) h (br_f (by decide) ?_))))
      unfold wpY_isWrite; dsimp only
      exact yq_inF (Or.inl h2) (br_t rfl (br_t rfl (bad _ ⟨rfl, J⟩)))
    · refine xq_isNodeF hst.2.2 (Or.inr h2) (br_t rfl (br_f e1 (yq_in (by omega) h (br_f (by decide) ?_))))
      unfold wpY_isWrite; dsimp only
      exact yq_inF (Or.inr h2) (br_t rfl (br_t rfl (bad _ ⟨rfl, J⟩)))
    refine xq_isNodeT hst.2.2 h2 (br_f (by decide) ?_)
    unfold wX_store_23
    refine br_f e1 ?_
    unfold wX_store_36
    have e2 : ¬ nI m = -1 := fun q => absurd ((ar_nei (a := 0) (by omega) (by omega)).mp q) (by omega)
    rcases pr_good (v := nI m) (c := v3) (s := v4) hst.2.2 e2 with ⟨m', d, s, q1, q2, q3, q4, rfl, rfl, gX, gY⟩ | ⟨gX, gY⟩
    · refine gX _ 6 ?_
      refine xq_set38 (t := 6) (m := m + 1) (by omega) hst.2.1 hO (by omega) (ar_by m (by omega)) ?_
      refine br_f (by decide) ⟨rfl, ?_⟩
      refine br_f e1 (yq_in (by omega) h (br_f (by decide) ?_))
      refine gY _ (br_f (by decide) ?_)
      unfold wY_store_27 wY_store_32
      refine br_f (by decide) (br_t (nI_pos' (by omega)) ?_)
      exact fin (m + 1) d s a _ (by omega) rfl (fun _ => ⟨rfl, q2, rfl, by omega, rfl, h⟩) _ (fun v' hv' => ⟨rfl, hv'⟩)
    · refine gX _ 6 (br_t rfl ⟨rfl, ?_⟩)
      exact br_f e1 (yq_in (by omega) h (br_f (by decide) (gY _ (br_t rfl (bad _ ⟨rfl, J⟩)))))
end
section
/-! a new node -/
theorem re_opv {kk : Nat} (h : kk < 10) : (re_op kk ≤ 1 ↔ kk ≤ 2) ∧ (re_op kk ≤ 2 ↔ kk ≠ 9) ∧ (re_op kk ≤ 0 ↔ kk ≤ 1) ∧ re_op kk ≤ 3 := by
  revert kk
  decide
section
variable {st nd bu nx wk kc1 kc0 kc2 kc3 kc4 kc5 kc6 kc7 gi ad : Nat} {xad xga xto yad yts yga : Int32} {kd sb tc sg wd fa ww so rg ce nm xdn xsn xpr xcl ct nb sy vl pv pc gv dn wo pp yo wh wt wi tr tg cd ws : Nat → Nat} {gs xcd xws xon xgu xlf xrt xlv ybs ycs ywd ycd yws ygu yone ytwo ylv : Nat → Int32} {xtr : Nat → Int64}
theorem pr_nodeA {kk s : Nat} {a b c : Int32} (hd : nd ≤ 24) (hk : kk < 10) (hs : s < 5) :
    (∃ A : Nat, a = nI A ∧ (kk = 0 → A < 65536) ∧ (kk = 1 → A < 6) ∧ (2 ≤ kk → A < nd) ∧
      (∀ poss : Int32 → SX → Prop, wX_node_59 poss (nI kk) a b c (nI s) (nI (re_op kk)) 1 (nI st) (nI nd) (nI bu) xad (nI nx) xga xto (ar_N kd) (ar_N sb) (ar_N tc) (ar_N sg) (ar_N wd) (ar_N fa) (ar_N ww) gs (ar_O so) xcd xws (ar_N rg) (ar_N ce) (ar_O nm) xon xgu (ar_N xdn) (ar_N xsn) (ar_N xpr) (ar_N xcl) xtr (ar_N ct) xlf xrt xlv → wpX_node poss (nI st, nI nd, nI bu, xad, nI nx, xga, xto, ar_N kd, ar_N sb, ar_N tc, ar_N sg, ar_N wd, ar_N fa, ar_N ww, gs, ar_O so, xcd, xws, ar_N rg, ar_N ce, ar_O nm, xon, xgu, ar_N xdn, ar_N xsn, ar_N xpr, ar_N xcl, xtr, ar_N ct, xlf, xrt, xlv) (nI kk) a b c (nI s)) ∧
      (∀ pos2 : Int32 → SY → Prop, wY_node_69 pos2 (nI kk) a b c (nI s) (nI (re_op kk)) (nI st) (nI nd) (nI bu) yad (nI wk) (nI nx) (nI kc1) (nI kc0) (nI kc2) (nI kc3) (nI kc4) (nI kc5) (nI kc6) (nI kc7) yts (nI gi) yga (ar_N ww) (ar_N rg) (ar_N ce) gs (ar_N kd) (ar_N fa) ybs ycs (ar_N sg) ywd (ar_O so) ycd yws (ar_N nb) (ar_N sy) (ar_N vl) (ar_N pv) (ar_N pc) ygu (ar_N gv) (ar_N dn) (ar_N wo) (ar_N pp) (ar_N yo) (ar_N wh) (ar_N wt) (ar_N wi) (ar_N tr) (ar_N tg) yone ytwo ylv → wpY_node pos2 (nI st, nI nd, nI bu, yad, nI wk, nI nx, nI kc1, nI kc0, nI kc2, nI kc3, nI kc4, nI kc5, nI kc6, nI kc7, yts, nI gi, yga, ar_N ww, ar_N rg, ar_N ce, gs, ar_N kd, ar_N fa, ybs, ycs, ar_N sg, ywd, ar_O so, ycd, yws, ar_N nb, ar_N sy, ar_N vl, ar_N pv, ar_N pc, ygu, ar_N gv, ar_N dn, ar_N wo, ar_N pp, ar_N yo, ar_N wh, ar_N wt, ar_N wi, ar_N tr, ar_N tg, yone, ytwo, ylv) (nI kk) a b c (nI s))) ∨
    ((∀ poss : Int32 → SX → Prop, poss (-1) (nI st, nI nd, nI bu, xad, nI nx, xga, xto, ar_N kd, ar_N sb, ar_N tc, ar_N sg, ar_N wd, ar_N fa, ar_N ww, gs, ar_O so, xcd, xws, ar_N rg, ar_N ce, ar_O nm, xon, xgu, ar_N xdn, ar_N xsn, ar_N xpr, ar_N xcl, xtr, ar_N ct, xlf, xrt, xlv) → wpX_node poss (nI st, nI nd, nI bu, xad, nI nx, xga, xto, ar_N kd, ar_N sb, ar_N tc, ar_N sg, ar_N wd, ar_N fa, ar_N ww, gs, ar_O so, xcd, xws, ar_N rg, ar_N ce, ar_O nm, xon, xgu, ar_N xdn, ar_N xsn, ar_N xpr, ar_N xcl, xtr, ar_N ct, xlf, xrt, xlv) (nI kk) a b c (nI s)) ∧ (∀ pos2 : Int32 → SY → Prop, pos2 (-1) (nI st, nI nd, nI bu, yad, nI wk, nI nx, nI kc1, nI kc0, nI kc2, nI kc3, nI kc4, nI kc5, nI kc6, nI kc7, yts, nI gi, yga, ar_N ww, ar_N rg, ar_N ce, gs, ar_N kd, ar_N fa, ybs, ycs, ar_N sg, ywd, ar_O so, ycd, yws, ar_N nb, ar_N sy, ar_N vl, ar_N pv, ar_N pc, ygu, ar_N gv, ar_N dn, ar_N wo, ar_N pp, ar_N yo, ar_N wh, ar_N wt, ar_N wi, ar_N tr, ar_N tg, yone, ytwo, ylv) → wpY_node pos2 (nI st, nI nd, nI bu, yad, nI wk, nI nx, nI kc1, nI kc0, nI kc2, nI kc3, nI kc4, nI kc5, nI kc6, nI kc7, yts, nI gi, yga, ar_N ww, ar_N rg, ar_N ce, gs, ar_N kd, ar_N fa, ybs, ycs, ar_N sg, ywd, ar_O so, ycd, yws, ar_N nb, ar_N sy, ar_N vl, ar_N pv, ar_N pc, ygu, ar_N gv, ar_N dn, ar_N wo, ar_N pp, ar_N yo, ar_N wh, ar_N wt, ar_N wi, ar_N tr, ar_N tg, yone, ytwo, ylv) (nI kk) a b c (nI s))) := by
  obtain ⟨o1, o2, o3, o4⟩ := re_opv hk
  -- the heads
  have hX : ∀ poss : Int32 → SX → Prop, (((nI kk = 0 → (wpX_in (fun r_195 => (wX_node_59 poss (nI kk) a b c (nI s) (nI (re_op kk)) r_195 (nI st) (nI nd) (nI bu) xad (nI nx) xga xto (ar_N kd) (ar_N sb) (ar_N tc) (ar_N sg) (ar_N wd) (ar_N fa) (ar_N ww) gs (ar_O so) xcd xws (ar_N rg) (ar_N ce) (ar_O nm) xon xgu (ar_N xdn) (ar_N xsn) (ar_N xpr) (ar_N xcl) xtr (ar_N ct) xlf xrt xlv)) a 0 65535)) ∧ (¬ nI kk = 0 → (((nI kk = 1 → (wpX_isRegister (fun r_194 => (wX_node_59 poss (nI kk) a b c (nI s) (nI (re_op kk)) r_194 (nI st) (nI nd) (nI bu) xad (nI nx) xga xto (ar_N kd) (ar_N sb) (ar_N tc) (ar_N sg) (ar_N wd) (ar_N fa) (ar_N ww) gs (ar_O so) xcd xws (ar_N rg) (ar_N ce) (ar_O nm) xon xgu (ar_N xdn) (ar_N xsn) (ar_N xpr) (ar_N xcl) xtr (ar_N ct) xlf xrt xlv)) a)) ∧ (¬ nI kk = 1 → (wpX_isNode (fun r_8 => (wX_node_59 poss (nI kk) a b c (nI s) (nI (re_op kk)) r_8 (nI st) (nI nd) (nI bu) xad (nI nx) xga xto (ar_N kd) (ar_N sb) (ar_N tc) (ar_N sg) (ar_N wd) (ar_N fa) (ar_N ww) gs (ar_O so) xcd xws (ar_N rg) (ar_N ce) (ar_O nm) xon xgu (ar_N xdn) (ar_N xsn) (ar_N xpr) (ar_N xcl) xtr (ar_N ct) xlf xrt xlv)) (nI st, nI nd, nI bu, xad, nI nx, xga, xto, ar_N kd, ar_N sb, ar_N tc, ar_N sg, ar_N wd, ar_N fa, ar_N ww, gs, ar_O so, xcd, xws, ar_N rg, ar_N ce, ar_O nm, xon, xgu, ar_N xdn, ar_N xsn, ar_N xpr, ar_N xcl, xtr, ar_N ct, xlf, xrt, xlv) a))))))) → wpX_node poss (nI st, nI nd, nI bu, xad, nI nx, xga, xto, ar_N kd, ar_N sb, ar_N tc, ar_N sg, ar_N wd, ar_N fa, ar_N ww, gs, ar_O so, xcd, xws, ar_N rg, ar_N ce, ar_O nm, xon, xgu, ar_N xdn, ar_N xsn, ar_N xpr, ar_N xcl, xtr, ar_N ct, xlf, xrt, xlv) (nI kk) a b c (nI s) := by
    intro poss hp
    unfold wpX_node
    dsimp only
    exact xq_in1T (n := 10) (by omega) hk (br_f (by decide) (xq_in1T (n := 5) (by omega) hs (br_f (by decide) (xq_operands (by omega) hp))))
  have hXb : ∀ poss : Int32 → SX → Prop, poss (-1) (nI st, nI nd, nI bu, xad, nI nx, xga, xto, ar_N kd, ar_N sb, ar_N tc, ar_N sg, ar_N wd, ar_N fa, ar_N ww, gs, ar_O so, xcd, xws, ar_N rg, ar_N ce, ar_O nm, xon, xgu, ar_N xdn, ar_N xsn, ar_N xpr, ar_N xcl, xtr, ar_N ct, xlf, xrt, xlv) → wX_node_59 poss (nI kk) a b c (nI s) (nI (re_op kk)) 0 (nI st) (nI nd) (nI bu) xad (nI nx) xga xto (ar_N kd) (ar_N sb) (ar_N tc) (ar_N sg) (ar_N wd) (ar_N fa) (ar_N ww) gs (ar_O so) xcd xws (ar_N rg) (ar_N ce) (ar_O nm) xon xgu (ar_N xdn) (ar_N xsn) (ar_N xpr) (ar_N xcl) xtr (ar_N ct) xlf xrt xlv := by
    intro poss hp
    unfold wX_node_59
    exact br_t rfl hp
  have hY : ∀ pos2 : Int32 → SY → Prop, (((nI kk = 0 → (wpY_in (fun r_81 => (((r_81 = 0 → (pos2 (-1) (nI st, nI nd, nI bu, yad, nI wk, nI nx, nI kc1, nI kc0, nI kc2, nI kc3, nI kc4, nI kc5, nI kc6, nI kc7, yts, nI gi, yga, ar_N ww, ar_N rg, ar_N ce, gs, ar_N kd, ar_N fa, ybs, ycs, ar_N sg, ywd, ar_O so, ycd, yws, ar_N nb, ar_N sy, ar_N vl, ar_N pv, ar_N pc, ygu, ar_N gv, ar_N dn, ar_N wo, ar_N pp, ar_N yo, ar_N wh, ar_N wt, ar_N wi, ar_N tr, ar_N tg, yone, ytwo, ylv))) ∧ (¬ r_81 = 0 → (wY_node_31 pos2 (nI kk) a b c (nI s) (nI st) (nI nd) (nI bu) yad (nI wk) (nI nx) (nI kc1) (nI kc0) (nI kc2) (nI kc3) (nI kc4) (nI kc5) (nI kc6) (nI kc7) yts (nI gi) yga (ar_N ww) (ar_N rg) (ar_N ce) gs (ar_N kd) (ar_N fa) ybs ycs (ar_N sg) ywd (ar_O so) ycd yws (ar_N nb) (ar_N sy) (ar_N vl) (ar_N pv) (ar_N pc) ygu (ar_N gv) (ar_N dn) (ar_N wo) (ar_N pp) (ar_N yo) (ar_N wh) (ar_N wt) (ar_N wi) (ar_N tr) (ar_N tg) yone ytwo ylv))))) a 65536)) ∧ (¬ nI kk = 0 → (wY_node_31 pos2 (nI kk) a b c (nI s) (nI st) (nI nd) (nI bu) yad (nI wk) (nI nx) (nI kc1) (nI kc0) (nI kc2) (nI kc3) (nI kc4) (nI kc5) (nI kc6) (nI kc7) yts (nI gi) yga (ar_N ww) (ar_N rg) (ar_N ce) gs (ar_N kd) (ar_N fa) ybs ycs (ar_N sg) ywd (ar_O so) ycd yws (ar_N nb) (ar_N sy) (ar_N vl) (ar_N pv) (ar_N pc) ygu (ar_N gv) (ar_N dn) (ar_N wo) (ar_N pp) (ar_N yo) (ar_N wh) (ar_N wt) (ar_N wi) (ar_N tr) (ar_N tg) yone ytwo ylv)))) → wpY_node pos2 (nI st, nI nd, nI bu, yad, nI wk, nI nx, nI kc1, nI kc0, nI kc2, nI kc3, nI kc4, nI kc5, nI kc6, nI kc7, yts, nI gi, yga, ar_N ww, ar_N rg, ar_N ce, gs, ar_N kd, ar_N fa, ybs, ycs, ar_N sg, ywd, ar_O so, ycd, yws, ar_N nb, ar_N sy, ar_N vl, ar_N pv, ar_N pc, ygu, ar_N gv, ar_N dn, ar_N wo, ar_N pp, ar_N yo, ar_N wh, ar_N wt, ar_N wi, ar_N tr, ar_N tg, yone, ytwo, ylv) (nI kk) a b c (nI s) := by
    intro pos2 hp
    unfold wpY_node
    dsimp only
    exact yq_in (b := 10) (by omega) hk (br_f (by decide) (yq_in (b := 5) (by omega) hs (br_f (by decide) hp)))
  by_cases k0 : kk = 0
  · have e0 : nI kk = 0 := by rw [k0]; rfl
    have n1 : ¬ nI kk = 1 := by rw [k0]; decide
    rcases pk_ix a (n := 65536) (by omega) with h | h | ⟨A, h, rfl⟩
    · exact Or.inr ⟨fun poss hp => hX poss (br_t e0 (xq_in1F (n := 65536) (by omega) (Or.inl h) (hXb _ hp))), fun pos2 hp => hY pos2 (br_t e0 (yq_inF (Or.inl h) (br_t rfl hp)))⟩
    · exact Or.inr ⟨fun poss hp => hX poss (br_t e0 (xq_in1F (n := 65536) (by omega) (Or.inr h) (hXb _ hp))), fun pos2 hp => hY pos2 (br_t e0 (yq_inF (Or.inr h) (br_t rfl hp)))⟩
    · refine Or.inl ⟨A, rfl, fun _ => h, fun q => by omega, fun q => by omega, fun poss hp => hX poss (br_t e0 (xq_in1T (n := 65536) (by omega) h hp)), fun pos2 hp => hY pos2 (br_t e0 (yq_in (b := 65536) (by omega) h (br_f (by decide) ?_)))⟩
      unfold wY_node_31
      refine br_f n1 ?_
      unfold wY_node_47
      exact yq_operands (by omega) (br_t (nI_le (b := 0) (by omega) (by omega)) hp)
  have e0 : ¬ nI kk = 0 := by rw [show (0 : Int32) = nI 0 from rfl, nI_eq (by omega) (by omega)]; exact k0
  by_cases k1 : kk = 1
  · have e1 : nI kk = 1 := by rw [k1]; rfl
    rcases pk_ix a (n := 6) (by omega) with h | h | ⟨A, h, rfl⟩
    · refine Or.inr ⟨fun poss hp => hX poss (br_f e0 (br_t e1 (xq_isRegF (Or.inl h) (hXb _ hp)))), fun pos2 hp => hY pos2 (br_f e0 ?_)⟩
      unfold wY_node_31
      exact br_t e1 (yq_inF (Or.inl h) (br_t rfl hp))
    · refine Or.inr ⟨fun poss hp => hX poss (br_f e0 (br_t e1 (xq_isRegF (Or.inr h) (hXb _ hp)))), fun pos2 hp => hY pos2 (br_f e0 ?_)⟩
      unfold wY_node_31
      exact br_t e1 (yq_inF (Or.inr h) (br_t rfl hp))
    · refine Or.inl ⟨A, rfl, fun q => by omega, fun _ => h, fun q => by omega, fun poss hp => hX poss (br_f e0 (br_t e1 (xq_isRegT h hp))), fun pos2 hp => hY pos2 (br_f e0 ?_)⟩
      unfold wY_node_31
      refine br_t e1 (yq_in (b := 6) (by omega) h (br_f (by decide) ?_))
      unfold wY_node_47
      exact yq_operands (by omega) (br_t (nI_le (b := 0) (by omega) (by omega)) hp)
  · have e1 : ¬ nI kk = 1 := by rw [show (1 : Int32) = nI 1 from rfl, nI_eq (by omega) (by omega)]; exact k1
    have hY2 : ∀ pos2 : Int32 → SY → Prop, wpY_in (fun r_77 => (((r_77 = 0 → (pos2 (-1) (nI st, nI nd, nI bu, yad, nI wk, nI nx, nI kc1, nI kc0, nI kc2, nI kc3, nI kc4, nI kc5, nI kc6, nI kc7, yts, nI gi, yga, ar_N ww, ar_N rg, ar_N ce, gs, ar_N kd, ar_N fa, ybs, ycs, ar_N sg, ywd, ar_O so, ycd, yws, ar_N nb, ar_N sy, ar_N vl, ar_N pv, ar_N pc, ygu, ar_N gv, ar_N dn, ar_N wo, ar_N pp, ar_N yo, ar_N wh, ar_N wt, ar_N wi, ar_N tr, ar_N tg, yone, ytwo, ylv))) ∧ (¬ r_77 = 0 → (wY_node_69 pos2 (nI kk) a b c (nI s) (nI (re_op kk)) (nI st) (nI nd) (nI bu) yad (nI wk) (nI nx) (nI kc1) (nI kc0) (nI kc2) (nI kc3) (nI kc4) (nI kc5) (nI kc6) (nI kc7) yts (nI gi) yga (ar_N ww) (ar_N rg) (ar_N ce) gs (ar_N kd) (ar_N fa) ybs ycs (ar_N sg) ywd (ar_O so) ycd yws (ar_N nb) (ar_N sy) (ar_N vl) (ar_N pv) (ar_N pc) ygu (ar_N gv) (ar_N dn) (ar_N wo) (ar_N pp) (ar_N yo) (ar_N wh) (ar_N wt) (ar_N wi) (ar_N tr) (ar_N tg) yone ytwo ylv))))) a (nI nd) → wpY_node pos2 (nI st, nI nd, nI bu, yad, nI wk, nI nx, nI kc1, nI kc0, nI kc2, nI kc3, nI kc4, nI kc5, nI kc6, nI kc7, yts, nI gi, yga, ar_N ww, ar_N rg, ar_N ce, gs, ar_N kd, ar_N fa, ybs, ycs, ar_N sg, ywd, ar_O so, ycd, yws, ar_N nb, ar_N sy, ar_N vl, ar_N pv, ar_N pc, ygu, ar_N gv, ar_N dn, ar_N wo, ar_N pp, ar_N yo, ar_N wh, ar_N wt, ar_N wi, ar_N tr, ar_N tg, yone, ytwo, ylv) (nI kk) a b c (nI s) := by
      intro pos2 hp
      refine hY pos2 (br_f e0 ?_)
      unfold wY_node_31
      refine br_f e1 ?_
      unfold wY_node_47
      exact yq_operands (by omega) (br_f (nI_nle (by omega) (by omega)) hp)
    rcases pk_ix a (n := nd) (by omega) with h | h | ⟨A, h, rfl⟩
    · exact Or.inr ⟨fun poss hp => hX poss (br_f e0 (br_f e1 (xq_isNodeF hd (Or.inl h) (hXb _ hp)))), fun pos2 hp => hY2 pos2 (yq_inF (Or.inl h) (br_t rfl hp))⟩
    · exact Or.inr ⟨fun poss hp => hX poss (br_f e0 (br_f e1 (xq_isNodeF hd (Or.inr h) (hXb _ hp)))), fun pos2 hp => hY2 pos2 (yq_inF (Or.inr h) (br_t rfl hp))⟩
    · exact Or.inl ⟨A, rfl, fun q => by omega, fun q => by omega, fun _ => h, fun poss hp => hX poss (br_f e0 (br_f e1 (xq_isNodeT hd h hp))), fun pos2 hp => hY2 pos2 (yq_in (by omega) h (br_f (by decide) hp))⟩
theorem pr_nodeB {kk s : Nat} {a b c : Int32} (hd : nd ≤ 24) (hk : kk < 10) :
    (∃ B : Nat, B < 24 ∧ (¬ re_op kk ≤ 1 → b = nI B ∧ B < nd) ∧ (re_op kk ≤ 1 → B = 0) ∧
      (∀ poss : Int32 → SX → Prop, wX_node_80 poss (nI kk) a b c (nI s) (nI (re_op kk)) (nI st) (nI nd) (nI bu) xad (nI nx) xga xto (ar_N kd) (ar_N sb) (ar_N tc) (ar_N sg) (ar_N wd) (ar_N fa) (ar_N ww) gs (ar_O so) xcd xws (ar_N rg) (ar_N ce) (ar_O nm) xon xgu (ar_N xdn) (ar_N xsn) (ar_N xpr) (ar_N xcl) xtr (ar_N ct) xlf xrt xlv → wX_node_59 poss (nI kk) a b c (nI s) (nI (re_op kk)) 1 (nI st) (nI nd) (nI bu) xad (nI nx) xga xto (ar_N kd) (ar_N sb) (ar_N tc) (ar_N sg) (ar_N wd) (ar_N fa) (ar_N ww) gs (ar_O so) xcd xws (ar_N rg) (ar_N ce) (ar_O nm) xon xgu (ar_N xdn) (ar_N xsn) (ar_N xpr) (ar_N xcl) xtr (ar_N ct) xlf xrt xlv) ∧
      (∀ pos2 : Int32 → SY → Prop, wY_node_86 pos2 (nI kk) a b c (nI s) (nI (re_op kk)) (nI st) (nI nd) (nI bu) yad (nI wk) (nI nx) (nI kc1) (nI kc0) (nI kc2) (nI kc3) (nI kc4) (nI kc5) (nI kc6) (nI kc7) yts (nI gi) yga (ar_N ww) (ar_N rg) (ar_N ce) gs (ar_N kd) (ar_N fa) ybs ycs (ar_N sg) ywd (ar_O so) ycd yws (ar_N nb) (ar_N sy) (ar_N vl) (ar_N pv) (ar_N pc) ygu (ar_N gv) (ar_N dn) (ar_N wo) (ar_N pp) (ar_N yo) (ar_N wh) (ar_N wt) (ar_N wi) (ar_N tr) (ar_N tg) yone ytwo ylv → wY_node_69 pos2 (nI kk) a b c (nI s) (nI (re_op kk)) (nI st) (nI nd) (nI bu) yad (nI wk) (nI nx) (nI kc1) (nI kc0) (nI kc2) (nI kc3) (nI kc4) (nI kc5) (nI kc6) (nI kc7) yts (nI gi) yga (ar_N ww) (ar_N rg) (ar_N ce) gs (ar_N kd) (ar_N fa) ybs ycs (ar_N sg) ywd (ar_O so) ycd yws (ar_N nb) (ar_N sy) (ar_N vl) (ar_N pv) (ar_N pc) ygu (ar_N gv) (ar_N dn) (ar_N wo) (ar_N pp) (ar_N yo) (ar_N wh) (ar_N wt) (ar_N wi) (ar_N tr) (ar_N tg) yone ytwo ylv)) ∨
    ((∀ poss : Int32 → SX → Prop, poss (-1) (nI st, nI nd, nI bu, xad, nI nx, xga, xto, ar_N kd, ar_N sb, ar_N tc, ar_N sg, ar_N wd, ar_N fa, ar_N ww, gs, ar_O so, xcd, xws, ar_N rg, ar_N ce, ar_O nm, xon, xgu, ar_N xdn, ar_N xsn, ar_N xpr, ar_N xcl, xtr, ar_N ct, xlf, xrt, xlv) → wX_node_59 poss (nI kk) a b c (nI s) (nI (re_op kk)) 1 (nI st) (nI nd) (nI bu) xad (nI nx) xga xto (ar_N kd) (ar_N sb) (ar_N tc) (ar_N sg) (ar_N wd) (ar_N fa) (ar_N ww) gs (ar_O so) xcd xws (ar_N rg) (ar_N ce) (ar_O nm) xon xgu (ar_N xdn) (ar_N xsn) (ar_N xpr) (ar_N xcl) xtr (ar_N ct) xlf xrt xlv) ∧ (∀ pos2 : Int32 → SY → Prop, pos2 (-1) (nI st, nI nd, nI bu, yad, nI wk, nI nx, nI kc1, nI kc0, nI kc2, nI kc3, nI kc4, nI kc5, nI kc6, nI kc7, yts, nI gi, yga, ar_N ww, ar_N rg, ar_N ce, gs, ar_N kd, ar_N fa, ybs, ycs, ar_N sg, ywd, ar_O so, ycd, yws, ar_N nb, ar_N sy, ar_N vl, ar_N pv, ar_N pc, ygu, ar_N gv, ar_N dn, ar_N wo, ar_N pp, ar_N yo, ar_N wh, ar_N wt, ar_N wi, ar_N tr, ar_N tg, yone, ytwo, ylv) → wY_node_69 pos2 (nI kk) a b c (nI s) (nI (re_op kk)) (nI st) (nI nd) (nI bu) yad (nI wk) (nI nx) (nI kc1) (nI kc0) (nI kc2) (nI kc3) (nI kc4) (nI kc5) (nI kc6) (nI kc7) yts (nI gi) yga (ar_N ww) (ar_N rg) (ar_N ce) gs (ar_N kd) (ar_N fa) ybs ycs (ar_N sg) ywd (ar_O so) ycd yws (ar_N nb) (ar_N sy) (ar_N vl) (ar_N pv) (ar_N pc) ygu (ar_N gv) (ar_N dn) (ar_N wo) (ar_N pp) (ar_N yo) (ar_N wh) (ar_N wt) (ar_N wi) (ar_N tr) (ar_N tg) yone ytwo ylv)) := by
  obtain ⟨o1, o2, o3, o4⟩ := re_opv hk
  unfold wX_node_59 wY_node_69
  by_cases z : re_op kk ≤ 1
  · have e : nI (re_op kk) ≤ 1 := nI_le (b := 1) z (by omega)
    exact Or.inl ⟨0, by omega, fun q => absurd z q, fun _ => rfl, fun poss hp => br_f (by decide) (br_t e hp), fun pos2 hp => br_t e hp⟩
  · have e : ¬ nI (re_op kk) ≤ 1 := nI_ge (a := 1) (by omega) (by omega)
    rcases pk_ix b (n := nd) (by omega) with h | h | ⟨B, h, rfl⟩
    · exact Or.inr ⟨fun poss hp => br_f (by decide) (br_f e (xq_isNodeF hd (Or.inl h) (br_t rfl hp))), fun pos2 hp => br_f e (yq_inF (Or.inl h) (br_t rfl hp))⟩
    · exact Or.inr ⟨fun poss hp => br_f (by decide) (br_f e (xq_isNodeF hd (Or.inr h) (br_t rfl hp))), fun pos2 hp => br_f e (yq_inF (Or.inr h) (br_t rfl hp))⟩
    · exact Or.inl ⟨B, by omega, fun _ => ⟨rfl, h⟩, fun q => absurd q z, fun poss hp => br_f (by decide) (br_f e (xq_isNodeT hd h (br_f (by decide) hp))), fun pos2 hp => br_f e (yq_in (by omega) h (br_f (by decide) hp))⟩
theorem pr_nodeC {kk s : Nat} {a b c : Int32} (hd : nd ≤ 24) (hk : kk < 10) :
    (∃ C : Nat, C < 24 ∧ (¬ re_op kk ≤ 2 → c = nI C ∧ C < nd) ∧ (re_op kk ≤ 2 → C = 0) ∧
      (∀ poss : Int32 → SX → Prop, wX_node_97 poss (nI kk) a b c (nI s) (nI (re_op kk)) (nI st) (nI nd) (nI bu) xad (nI nx) xga xto (ar_N kd) (ar_N sb) (ar_N tc) (ar_N sg) (ar_N wd) (ar_N fa) (ar_N ww) gs (ar_O so) xcd xws (ar_N rg) (ar_N ce) (ar_O nm) xon xgu (ar_N xdn) (ar_N xsn) (ar_N xpr) (ar_N xcl) xtr (ar_N ct) xlf xrt xlv → wX_node_80 poss (nI kk) a b c (nI s) (nI (re_op kk)) (nI st) (nI nd) (nI bu) xad (nI nx) xga xto (ar_N kd) (ar_N sb) (ar_N tc) (ar_N sg) (ar_N wd) (ar_N fa) (ar_N ww) gs (ar_O so) xcd xws (ar_N rg) (ar_N ce) (ar_O nm) xon xgu (ar_N xdn) (ar_N xsn) (ar_N xpr) (ar_N xcl) xtr (ar_N ct) xlf xrt xlv) ∧
      (∀ pos2 : Int32 → SY → Prop, wY_node_106 pos2 (nI kk) a b c (nI s) (nI st) (nI nd) (nI bu) yad (nI wk) (nI nx) (nI kc1) (nI kc0) (nI kc2) (nI kc3) (nI kc4) (nI kc5) (nI kc6) (nI kc7) yts (nI gi) yga (ar_N ww) (ar_N rg) (ar_N ce) gs (ar_N kd) (ar_N fa) ybs ycs (ar_N sg) ywd (ar_O so) ycd yws (ar_N nb) (ar_N sy) (ar_N vl) (ar_N pv) (ar_N pc) ygu (ar_N gv) (ar_N dn) (ar_N wo) (ar_N pp) (ar_N yo) (ar_N wh) (ar_N wt) (ar_N wi) (ar_N tr) (ar_N tg) yone ytwo ylv → wY_node_86 pos2 (nI kk) a b c (nI s) (nI (re_op kk)) (nI st) (nI nd) (nI bu) yad (nI wk) (nI nx) (nI kc1) (nI kc0) (nI kc2) (nI kc3) (nI kc4) (nI kc5) (nI kc6) (nI kc7) yts (nI gi) yga (ar_N ww) (ar_N rg) (ar_N ce) gs (ar_N kd) (ar_N fa) ybs ycs (ar_N sg) ywd (ar_O so) ycd yws (ar_N nb) (ar_N sy) (ar_N vl) (ar_N pv) (ar_N pc) ygu (ar_N gv) (ar_N dn) (ar_N wo) (ar_N pp) (ar_N yo) (ar_N wh) (ar_N wt) (ar_N wi) (ar_N tr) (ar_N tg) yone ytwo ylv)) ∨
    ((∀ poss : Int32 → SX → Prop, poss (-1) (nI st, nI nd, nI bu, xad, nI nx, xga, xto, ar_N kd, ar_N sb, ar_N tc, ar_N sg, ar_N wd, ar_N fa, ar_N ww, gs, ar_O so, xcd, xws, ar_N rg, ar_N ce, ar_O nm, xon, xgu, ar_N xdn, ar_N xsn, ar_N xpr, ar_N xcl, xtr, ar_N ct, xlf, xrt, xlv) → wX_node_80 poss (nI kk) a b c (nI s) (nI (re_op kk)) (nI st) (nI nd) (nI bu) xad (nI nx) xga xto (ar_N kd) (ar_N sb) (ar_N tc) (ar_N sg) (ar_N wd) (ar_N fa) (ar_N ww) gs (ar_O so) xcd xws (ar_N rg) (ar_N ce) (ar_O nm) xon xgu (ar_N xdn) (ar_N xsn) (ar_N xpr) (ar_N xcl) xtr (ar_N ct) xlf xrt xlv) ∧ (∀ pos2 : Int32 → SY → Prop, pos2 (-1) (nI st, nI nd, nI bu, yad, nI wk, nI nx, nI kc1, nI kc0, nI kc2, nI kc3, nI kc4, nI kc5, nI kc6, nI kc7, yts, nI gi, yga, ar_N ww, ar_N rg, ar_N ce, gs, ar_N kd, ar_N fa, ybs, ycs, ar_N sg, ywd, ar_O so, ycd, yws, ar_N nb, ar_N sy, ar_N vl, ar_N pv, ar_N pc, ygu, ar_N gv, ar_N dn, ar_N wo, ar_N pp, ar_N yo, ar_N wh, ar_N wt, ar_N wi, ar_N tr, ar_N tg, yone, ytwo, ylv) → wY_node_86 pos2 (nI kk) a b c (nI s) (nI (re_op kk)) (nI st) (nI nd) (nI bu) yad (nI wk) (nI nx) (nI kc1) (nI kc0) (nI kc2) (nI kc3) (nI kc4) (nI kc5) (nI kc6) (nI kc7) yts (nI gi) yga (ar_N ww) (ar_N rg) (ar_N ce) gs (ar_N kd) (ar_N fa) ybs ycs (ar_N sg) ywd (ar_O so) ycd yws (ar_N nb) (ar_N sy) (ar_N vl) (ar_N pv) (ar_N pc) ygu (ar_N gv) (ar_N dn) (ar_N wo) (ar_N pp) (ar_N yo) (ar_N wh) (ar_N wt) (ar_N wi) (ar_N tr) (ar_N tg) yone ytwo ylv)) := by
  obtain ⟨o1, o2, o3, o4⟩ := re_opv hk
  unfold wX_node_80 wY_node_86
  by_cases z : re_op kk ≤ 2
  · have e : nI (re_op kk) ≤ 2 := nI_le (b := 2) z (by omega)
    exact Or.inl ⟨0, by omega, fun q => absurd z q, fun _ => rfl, fun poss hp => br_t e hp, fun pos2 hp => br_t e hp⟩
  · have e : ¬ nI (re_op kk) ≤ 2 := nI_ge (a := 2) (by omega) (by omega)
    rcases pk_ix c (n := nd) (by omega) with h | h | ⟨C, h, rfl⟩
    · exact Or.inr ⟨fun poss hp => br_f e (xq_isNodeF hd (Or.inl h) (br_t rfl hp)), fun pos2 hp => br_f e (yq_inF (Or.inl h) (br_t rfl hp))⟩
    · exact Or.inr ⟨fun poss hp => br_f e (xq_isNodeF hd (Or.inr h) (br_t rfl hp)), fun pos2 hp => br_f e (yq_inF (Or.inr h) (br_t rfl hp))⟩
    · exact Or.inl ⟨C, by omega, fun _ => ⟨rfl, h⟩, fun q => absurd q z, fun poss hp => br_f e (xq_isNodeT hd h (br_f (by decide) hp)), fun pos2 hp => br_f e (yq_in (by omega) h (br_f (by decide) hp))⟩
end
theorem i_vc_node {k : Nat} {u : SX} {v : SY} (I : i_Rel k u v) (hk : k + 6 ≤ 3072) (v1 : Int32) (v2 : Int32) (v3 : Int32) (v4 : Int32) (v5 : Int32) : wpX_node (fun r u' => wpY_node (fun r' v' => r' = r ∧ i_Rel (k + 6) u' v') v v1 v2 v3 v4 v5) u v1 v2 v3 v4 v5 := by
  refine re_el (P := fun u v => wpX_node (fun r u' => wpY_node (fun r' v' => r' = r ∧ i_Rel (k + 6) u' v') v v1 v2 v3 v4 v5) u v1 v2 v3 v4 v5) ?_ I
  intro st nd bu nx wk gi ad xad xga xto yad yts yga kd sb tc sg wd fa ww so rg ce nm xdn xsn xpr xcl ct nb sy vl pv pc gv dn wo pp yo wh wt wi tr tg cd ws gs xcd xws xon xgu xlf xrt xlv ybs ycs ywd ycd yws ygu yone ytwo ylv xtr hR
  have J := re_in (re_up (show k ≤ k + 6 by omega) hR)
  obtain ⟨hM, hB, hO, hV, hQ, hP, hC, hL, hk20⟩ := hR
  have hst := hM.1
  have hn := hO.2.2.2.2
  have bad1 : (v1 < 0 ∨ nI 10 ≤ v1) → ∀ pos2 : Int32 → SY → Prop, pos2 (-1) (nI st, nI nd, nI bu, yad, nI wk, nI nx, nI (ct 1), nI (ct 0), nI (ct 2), nI (ct 3), nI (ct 4), nI (ct 5), nI (ct 6), nI (ct 7), yts, nI gi, yga, ar_N ww, ar_N rg, ar_N ce, gs, ar_N kd, ar_N fa, ybs, ycs, ar_N sg, ywd, ar_O so, ycd, yws, ar_N nb, ar_N sy, ar_N vl, ar_N pv, ar_N pc, ygu, ar_N gv, ar_N dn, ar_N wo, ar_N pp, ar_N yo, ar_N wh, ar_N wt, ar_N wi, ar_N tr, ar_N tg, yone, ytwo, ylv) → wpY_node pos2 (nI st, nI nd, nI bu, yad, nI wk, nI nx, nI (ct 1), nI (ct 0), nI (ct 2), nI (ct 3), nI (ct 4), nI (ct 5), nI (ct 6), nI (ct 7), yts, nI gi, yga, ar_N ww, ar_N rg, ar_N ce, gs, ar_N kd, ar_N fa, ybs, ycs, ar_N sg, ywd, ar_O so, ycd, yws, ar_N nb, ar_N sy, ar_N vl, ar_N pv, ar_N pc, ygu, ar_N gv, ar_N dn, ar_N wo, ar_N pp, ar_N yo, ar_N wh, ar_N wt, ar_N wi, ar_N tr, ar_N tg, yone, ytwo, ylv) v1 v2 v3 v4 v5 := by
    intro h pos2 hp
    unfold wpY_node; dsimp only
    exact yq_inF h (br_t rfl hp)
  rcases pk_ix v1 (n := 10) (by omega) with h | h | ⟨kk, hkk, rfl⟩
  · have := bad1 (Or.inl h) (fun r' v' => r' = -1 ∧ i_Rel (k + 6) (nI st, nI nd, nI bu, xad, nI nx, xga, xto, ar_N kd, ar_N sb, ar_N tc, ar_N sg, ar_N wd, ar_N fa, ar_N ww, gs, ar_O so, xcd, xws, ar_N rg, ar_N ce, ar_O nm, xon, xgu, ar_N xdn, ar_N xsn, ar_N xpr, ar_N xcl, xtr, ar_N ct, xlf, xrt, xlv) v') ⟨rfl, J⟩
    unfold wpX_node; dsimp only
    exact xq_in1F (n := 10) (by omega) (Or.inl h) (br_t rfl this)
  · have := bad1 (Or.inr h) (fun r' v' => r' = -1 ∧ i_Rel (k + 6) (nI st, nI nd, nI bu, xad, nI nx, xga, xto, ar_N kd, ar_N sb, ar_N tc, ar_N sg, ar_N wd, ar_N fa, ar_N ww, gs, ar_O so, xcd, xws, ar_N rg, ar_N ce, ar_O nm, xon, xgu, ar_N xdn, ar_N xsn, ar_N xpr, ar_N xcl, xtr, ar_N ct, xlf, xrt, xlv) v') ⟨rfl, J⟩
    unfold wpX_node; dsimp only
    exact xq_in1F (n := 10) (by omega) (Or.inr h) (br_t rfl this)
  have bad5 : (v5 < 0 ∨ nI 5 ≤ v5) → ∀ pos2 : Int32 → SY → Prop, pos2 (-1) (nI st, nI nd, nI bu, yad, nI wk, nI nx, nI (ct 1), nI (ct 0), nI (ct 2), nI (ct 3), nI (ct 4), nI (ct 5), nI (ct 6), nI (ct 7), yts, nI gi, yga, ar_N ww, ar_N rg, ar_N ce, gs, ar_N kd, ar_N fa, ybs, ycs, ar_N sg, ywd, ar_O so, ycd, yws, ar_N nb, ar_N sy, ar_N vl, ar_N pv, ar_N pc, ygu, ar_N gv, ar_N dn, ar_N wo, ar_N pp, ar_N yo, ar_N wh, ar_N wt, ar_N wi, ar_N tr, ar_N tg, yone, ytwo, ylv) → wpY_node pos2 (nI st, nI nd, nI bu, yad, nI wk, nI nx, nI (ct 1), nI (ct 0), nI (ct 2), nI (ct 3), nI (ct 4), nI (ct 5), nI (ct 6), nI (ct 7), yts, nI gi, yga, ar_N ww, ar_N rg, ar_N ce, gs, ar_N kd, ar_N fa, ybs, ycs, ar_N sg, ywd, ar_O so, ycd, yws, ar_N nb, ar_N sy, ar_N vl, ar_N pv, ar_N pc, ygu, ar_N gv, ar_N dn, ar_N wo, ar_N pp, ar_N yo, ar_N wh, ar_N wt, ar_N wi, ar_N tr, ar_N tg, yone, ytwo, ylv) (nI kk) v2 v3 v4 v5 := by
    intro h pos2 hp
    unfold wpY_node; dsimp only
    exact yq_in (b := 10) (by omega) hkk (br_f (by decide) (yq_inF h (br_t rfl hp)))
  rcases pk_ix v5 (n := 5) (by omega) with h | h | ⟨s, hs, rfl⟩
  · have := bad5 (Or.inl h) (fun r' v' => r' = -1 ∧ i_Rel (k + 6) (nI st, nI nd, nI bu, xad, nI nx, xga, xto, ar_N kd, ar_N sb, ar_N tc, ar_N sg, ar_N wd, ar_N fa, ar_N ww, gs, ar_O so, xcd, xws, ar_N rg, ar_N ce, ar_O nm, xon, xgu, ar_N xdn, ar_N xsn, ar_N xpr, ar_N xcl, xtr, ar_N ct, xlf, xrt, xlv) v') ⟨rfl, J⟩
    unfold wpX_node; dsimp only
    exact xq_in1T (n := 10) (by omega) hkk (br_f (by decide) (xq_in1F (n := 5) (by omega) (Or.inl h) (br_t rfl this)))
  · have := bad5 (Or.inr h) (fun r' v' => r' = -1 ∧ i_Rel (k + 6) (nI st, nI nd, nI bu, xad, nI nx, xga, xto, ar_N kd, ar_N sb, ar_N tc, ar_N sg, ar_N wd, ar_N fa, ar_N ww, gs, ar_O so, xcd, xws, ar_N rg, ar_N ce, ar_O nm, xon, xgu, ar_N xdn, ar_N xsn, ar_N xpr, ar_N xcl, xtr, ar_N ct, xlf, xrt, xlv) v') ⟨rfl, J⟩
    unfold wpX_node; dsimp only
    exact xq_in1T (n := 10) (by omega) hkk (br_f (by decide) (xq_in1F (n := 5) (by omega) (Or.inr h) (br_t rfl this)))
  obtain ⟨o1, o2, o3, o4⟩ := re_opv hkk
  rcases pr_nodeA (a := v2) (b := v3) (c := v4) hst.2.2 hkk hs with ⟨A, rfl, a0, a1, a2, aX, aY⟩ | ⟨aX, aY⟩
  rotate_left
  · exact aX _ (aY _ ⟨rfl, J⟩)
  rcases pr_nodeB (s := s) (a := nI A) (b := v3) (c := v4) hst.2.2 hkk with ⟨B, b24, b0, bz, bX, bY⟩ | ⟨bX, bY⟩
  rotate_left
  · exact aX _ (bX _ (aY _ (bY _ ⟨rfl, J⟩)))
  rcases pr_nodeC (s := s) (a := nI A) (b := v3) (c := v4) hst.2.2 hkk with ⟨C, c24, c0, cz, cX, cY⟩ | ⟨cX, cY⟩
  rotate_left
  · exact aX _ (bX _ (cX _ (aY _ (bY _ (cY _ ⟨rfl, J⟩)))))
  refine aX _ (bX _ (cX _ ?_))
  unfold wX_node_97
  by_cases full : nd = 24
  · refine br_t (by rw [full]; rfl) (aY _ (bY _ (cY _ ?_)))
    unfold wY_node_106
    exact br_t (by rw [full]; rfl) ⟨rfl, J⟩
  have nf : ¬ nI nd = 24 := by rw [show (24 : Int32) = nI 24 from rfl, nI_eq (by omega) (by omega)]; exact full
  have b := vp_in_nI (show nd < 24 by omega) (show 24 < 2 ^ 31 by omega)
  have hA : A < 65536 := by omega
  have h16 := re_w16 hM
  -- the new width
  have wbd := re_wb (kd := ar_u kd nd kk) (fa := ar_u fa nd A) (sb := ar_u sb nd B) (tc := ar_u tc nd C) (ww := ww) (wd := wd) (n := nd)
  rw [ar_us, ar_us, ar_us, ar_us] at wbd
  have wbd := wbd (by omega) a0 (fun q => ⟨(hM.2.2.1 A (a1 q)).1, (hM.2.2.1 A (a1 q)).2.1⟩) (fun q => h16 A (a2 (by omega))) (fun q => h16 B (b0 (by omega)).2) (fun q => h16 C (c0 (by omega)).2)
  refine br_f nf ?_
  refine xq_chg hst.2.1 hO (by omega) ?_
  dsimp only
  rw [nI_clamp (by omega)]
  refine ⟨b, fun p ep => ⟨b, fun q eq => ?_⟩⟩
  rw [ar_by _ (by omega), ar_uN] at ep
  rw [ar_ch _ hA, ar_uN] at eq
  rw [ep, eq]
  -- what is behind the second
  have two : ∀ (poss : Int32 → SX → Prop), poss (nI nd) (nI st, nI (nd + 1), nI 0, xad, nI (ct 1), xga, xto, ar_N (ar_u kd nd kk), ar_N (ar_u sb nd B), ar_N (ar_u tc nd C), ar_N (ar_u sg nd s), ar_N (ar_u wd nd (re_w (ar_u kd nd kk) (ar_u fa nd A) (ar_u sb nd B) (ar_u tc nd C) ww wd nd)), ar_N (ar_u fa nd A), ar_N ww, gs, ar_O so, xcd, xws, ar_N rg, ar_N ce, ar_O ar_nz, xon, xgu, ar_N xdn, ar_N xsn, ar_N xpr, ar_N xcl, xtr, ar_N ct, xlf, xrt, xlv) → wX_node_154 poss v4 (nI s) (nI (re_op kk)) (nI B) (nI nd) (nI st) (nI nd) (nI 0) xad (nI (ct 1)) xga xto (ar_N (ar_u kd nd kk)) (ar_N sb) (ar_N tc) (ar_N sg) (ar_N wd) (ar_N (ar_u fa nd A)) (ar_N ww) gs (ar_O so) xcd xws (ar_N rg) (ar_N ce) (ar_O ar_nz) xon xgu (ar_N xdn) (ar_N xsn) (ar_N xpr) (ar_N xcl) xtr (ar_N ct) xlf xrt xlv := by
    intro poss hp
    have three : wX_node_176 poss (nI s) (nI C) (nI nd) (nI st) (nI nd) (nI 0) xad (nI (ct 1)) xga xto (ar_N (ar_u kd nd kk)) (ar_N (ar_u sb nd B)) (ar_N tc) (ar_N sg) (ar_N wd) (ar_N (ar_u fa nd A)) (ar_N ww) gs (ar_O so) xcd xws (ar_N rg) (ar_N ce) (ar_O ar_nz) xon xgu (ar_N xdn) (ar_N xsn) (ar_N xpr) (ar_N xcl) xtr (ar_N ct) xlf xrt xlv := by
      unfold wX_node_176
      rw [nI_clamp (by omega)]
      refine ⟨b, fun x ex => ⟨b, fun y ey => ?_⟩⟩
      rw [ar_by _ (by omega), ar_uN] at ex ey
      rw [ex, ey]
      refine xq_widthOf (by omega) (by rw [ar_us]; omega) (by rw [ar_us, ar_us]; exact a0) (by rw [ar_us, ar_us]; exact a1) (by rw [ar_us, ar_us]; intro q; have := a2 (by omega); omega) (by rw [ar_us]; exact b24) (by rw [ar_us, ar_us]; exact fun _ => c24) (by rw [ar_us, ar_us]; intro q; have := h16 A (a2 (by omega)); omega) (by rw [ar_us, ar_us]; intro q; have := h16 B (b0 (by omega)).2; omega) (by rw [ar_us, ar_us]; intro q; have := h16 C (c0 (by omega)).2; omega) ⟨b, fun x2 ex2 y2 ey2 => ?_⟩
      rw [ar_by _ (by omega), ar_uN] at ex2
      rw [ex2, ey2, nI_1]
      exact hp
    unfold wX_node_154
    rw [nI_clamp (by omega), ar_by _ (by omega), ar_uN]
    refine ⟨b, fun x ex => ?_⟩
    rw [ex]
    refine pk_le (re_op kk) 2 (fun z => ?_) (fun z => ?_)
    · rw [cz z] at three
      rw [cz z] at hp
      exact three
    · rw [(c0 (by omega)).1]
      exact three
  have hYY : ∀ pos2 : Int32 → SY → Prop, (pos2 (nI nd) (nI st, nI (nd + 1), nI 0, yad, nI 0, nI (ct 1), nI (ct 1), nI (ct 0), nI (ct 2), nI (ct 3), nI (ct 4), nI (ct 5), nI (ct 6), nI (ct 7), yts, nI gi, yga, ar_N ww, ar_N rg, ar_N ce, gs, ar_N (ar_u kd nd kk), ar_N (ar_u fa nd A), upd ybs nd v3, upd ycs nd v4, ar_N (ar_u sg nd s), ywd, ar_O so, ycd, yws, ar_N nb, ar_N sy, ar_N vl, ar_N pv, ar_N pc, ygu, ar_N gv, ar_N dn, ar_N wo, ar_N pp, ar_N yo, ar_N wh, ar_N wt, ar_N wi, ar_N tr, ar_N tg, yone, ytwo, ylv)) → wpY_node pos2 (nI st, nI nd, nI bu, yad, nI wk, nI nx, nI (ct 1), nI (ct 0), nI (ct 2), nI (ct 3), nI (ct 4), nI (ct 5), nI (ct 6), nI (ct 7), yts, nI gi, yga, ar_N ww, ar_N rg, ar_N ce, gs, ar_N kd, ar_N fa, ybs, ycs, ar_N sg, ywd, ar_O so, ycd, yws, ar_N nb, ar_N sy, ar_N vl, ar_N pv, ar_N pc, ygu, ar_N gv, ar_N dn, ar_N wo, ar_N pp, ar_N yo, ar_N wh, ar_N wt, ar_N wi, ar_N tr, ar_N tg, yone, ytwo, ylv) (nI kk) (nI A) v3 v4 (nI s) := by
    intro pos2 hp
    refine aY _ (bY _ (cY _ ?_))
    unfold wY_node_106
    rw [nI_clamp (by omega), ar_uN, ar_uN, ar_uN]
    refine br_f nf ⟨b, fun x ex => ⟨b, fun y ey => ⟨b, fun z ez => ⟨b, fun x2 ex2 => ⟨b, fun y2 ey2 => ?_⟩⟩⟩⟩⟩
    rw [ex, ey, ez, ex2, ey2]
    refine yq_leave1 ?_
    intro w ew
    rw [ew, nI_1]
    exact hp
  have fin : i_Rel (k + 6) (nI st, nI (nd + 1), nI 0, xad, nI (ct 1), xga, xto, ar_N (ar_u kd nd kk), ar_N (ar_u sb nd B), ar_N (ar_u tc nd C), ar_N (ar_u sg nd s), ar_N (ar_u wd nd (re_w (ar_u kd nd kk) (ar_u fa nd A) (ar_u sb nd B) (ar_u tc nd C) ww wd nd)), ar_N (ar_u fa nd A), ar_N ww, gs, ar_O so, xcd, xws, ar_N rg, ar_N ce, ar_O ar_nz, xon, xgu, ar_N xdn, ar_N xsn, ar_N xpr, ar_N xcl, xtr, ar_N ct, xlf, xrt, xlv) (nI st, nI (nd + 1), nI 0, yad, nI 0, nI (ct 1), nI (ct 1), nI (ct 0), nI (ct 2), nI (ct 3), nI (ct 4), nI (ct 5), nI (ct 6), nI (ct 7), yts, nI gi, yga, ar_N ww, ar_N rg, ar_N ce, gs, ar_N (ar_u kd nd kk), ar_N (ar_u fa nd A), upd ybs nd v3, upd ycs nd v4, ar_N (ar_u sg nd s), ywd, ar_O so, ycd, yws, ar_N nb, ar_N sy, ar_N vl, ar_N pv, ar_N pc, ygu, ar_N gv, ar_N dn, ar_N wo, ar_N pp, ar_N yo, ar_N wh, ar_N wt, ar_N wi, ar_N tr, ar_N tg, yone, ytwo, ylv) := by
    refine re_in (re_idle (cd := cd) (ws := ws) (ad := ad) ⟨⟨hst.1, hst.2.1, by omega⟩, fun n hn' => ?_, hM.2.2.1, fun t ht => ?_, fun q => ?_⟩ hQ.2.2 hC hL (by omega))
    · by_cases e : n = nd
      · subst e
        have ew : re_w (ar_u kd n kk) (ar_u fa n A) (ar_u sb n B) (ar_u tc n C) ww (ar_u wd n (re_w (ar_u kd n kk) (ar_u fa n A) (ar_u sb n B) (ar_u tc n C) ww wd n)) n = re_w (ar_u kd n kk) (ar_u fa n A) (ar_u sb n B) (ar_u tc n C) ww wd n := by
          refine re_wC rfl rfl rfl rfl (fun q => ?_) (fun q => ?_) (fun q => ?_)
          · rw [ar_us] at q ⊢; exact ar_un (by have := a2 (by omega); omega)
          · rw [ar_us] at q ⊢; exact ar_un (by have := (b0 (by omega)).2; omega)
          · rw [ar_us] at q ⊢; exact ar_un (by have := (c0 (by omega)).2; omega)
        rw [ew, ar_us, ar_us, ar_us, ar_us, ar_us, ar_us, pk_us, pk_us]
        exact ⟨by omega, a0, a1, a2, fun q => ⟨(b0 (by omega)).2, (b0 (by omega)).1⟩, fun q => ⟨(c0 (by omega)).2, (c0 (by omega)).1⟩, b24, by omega, rfl⟩
      · obtain ⟨m1, m2, m3, m4, m5, m6, m7, m8, m9⟩ := hM.2.1 n (by omega)
        have ew : re_w (ar_u kd nd kk) (ar_u fa nd A) (ar_u sb nd B) (ar_u tc nd C) ww (ar_u wd nd (re_w (ar_u kd nd kk) (ar_u fa nd A) (ar_u sb nd B) (ar_u tc nd C) ww wd nd)) n = re_w kd fa sb tc ww wd n := by
          refine re_wC (ar_un e) (ar_un e) (ar_un e) (ar_un e) (fun q => ?_) (fun q => ?_) (fun q => ?_)
          · exact ar_un (by have := m4 (by omega); omega)
          · exact ar_un (by have := (m5 q).1; omega)
          · exact ar_un (by have := (m6 q).1; omega)
        rw [ew, ar_un e, ar_un e, ar_un e, ar_un e, ar_un e, ar_un e, pk_un e, pk_un e]
        exact ⟨m1, m2, m3, m4, m5, m6, m7, m8, m9⟩
    · obtain ⟨s1, s2⟩ := hM.2.2.2.1 t ht
      refine ⟨by omega, fun q => ?_⟩
      obtain ⟨q1, q2, q3, q4, q5, q6⟩ := s2 q
      exact ⟨q1, q2, by omega, q4, q5, q6⟩
    · obtain ⟨q1, q2, q3⟩ := hM.2.2.2.2 q
      exact ⟨q1, q2, by omega⟩
  have last := two (fun r u' => wpY_node (fun r' v' => r' = r ∧ i_Rel (k + 6) u' v') (nI st, nI nd, nI bu, yad, nI wk, nI nx, nI (ct 1), nI (ct 0), nI (ct 2), nI (ct 3), nI (ct 4), nI (ct 5), nI (ct 6), nI (ct 7), yts, nI gi, yga, ar_N ww, ar_N rg, ar_N ce, gs, ar_N kd, ar_N fa, ybs, ycs, ar_N sg, ywd, ar_O so, ycd, yws, ar_N nb, ar_N sy, ar_N vl, ar_N pv, ar_N pc, ygu, ar_N gv, ar_N dn, ar_N wo, ar_N pp, ar_N yo, ar_N wh, ar_N wt, ar_N wi, ar_N tr, ar_N tg, yone, ytwo, ylv) (nI kk) (nI A) v3 v4 (nI s)) (hYY _ ⟨rfl, fin⟩)
  refine pk_le (re_op kk) 1 (fun z => ?_) (fun z => ?_)
  · rw [bz z] at last
    rw [bz z] at fin
    exact last
  · have e3 := (b0 (by omega)).1
    rw [e3]
    rw [e3] at last
    exact last
end
section
/-! what is wrong with a machine -/
def re_wr (st nd : Nat) (kd fa sb tc sg wd ww so cd ws : Nat → Nat) (ad : Nat) (gs : Nat → Int32) (e k : Nat) : Prop :=
  (e = 1 ∧ st ≤ sg k) ∨ (e = 2 ∧ so k ≠ 0 ∧ st ≤ ws k) ∨ (e = 3 ∧ ∃ j, j < re_op (kd k) ∧ sg k < sg (re_nm fa sb tc k j)) ∨
  (e = 4 ∧ so k ≠ 0 ∧ (ws k < sg (so k - 1) ∨ (cd k ≠ 0 ∧ ws k < sg (cd k - 1)) ∨ (k = 6 ∧ ws k < sg ad))) ∨
  (e = 5 ∧ so k ≠ 0 ∧ (if k = 6 then 8 else ww k) < wd (so k - 1)) ∨
  (e = 6 ∧ k < 6 ∧ gs k ≠ 9 ∧ ¬ (so k ≠ 0 ∧ (∃ n, n < nd ∧ kd n = 1 ∧ fa n = k) ∧ ∀ n, n < nd → kd n = 1 → fa n = k → sg n = 0))
def re_bn (nd e : Nat) : Nat := if e = 1 ∨ e = 3 then nd else 7
section
variable {st nd bu nx wk kc1 kc0 kc2 kc3 kc4 kc5 kc6 kc7 gi ad : Nat} {xad xga xto yad yts yga : Int32} {kd sb tc sg wd fa ww so rg ce nm xdn xsn xpr xcl ct nb sy vl pv pc gv dn wo pp yo wh wt wi tr tg cd ws : Nat → Nat} {gs xcd xws xon xgu xlf xrt xlv ybs ycs ywd ycd yws ygu yone ytwo ylv : Nat → Int32} {xtr : Nat → Int64}
variable {post : Int32 → Prop}
/-- an operand of a node is an earlier node -/
theorem re_nmB {n j : Nat} (hM : re_M st nd kd fa sb tc sg wd ww so cd ws ad gs xcd xws ycd yws ybs ycs xad yad) (hn : n < nd) (hj : j < re_op (kd n)) : re_nm fa sb tc n j < n ∧ j < 3 ∧ (j = 1 → ybs n = nI (sb n)) ∧ (j ≠ 0 → j ≠ 1 → ycs n = nI (tc n)) := by
  obtain ⟨b1, b2, b3, b4, b5, b6, -⟩ := hM.2.1 n hn
  obtain ⟨o1, o2, o3, o4⟩ := re_opv (kk := kd n) (by omega)
  have h2 : 2 ≤ kd n := by
    rcases Nat.lt_or_ge (kd n) 2 with q | q
    · have := o3.mpr (by omega); omega
    · exact q
  have h3 : j ≠ 0 → 3 ≤ kd n := by
    intro q
    rcases Nat.lt_or_ge (kd n) 3 with c | c
    · have := o1.mpr (by omega); omega
    · exact c
  have h9 : j ≠ 0 → j ≠ 1 → kd n = 9 := by
    intro q1 q2
    by_cases c : kd n = 9
    · exact c
    · have := o2.mpr c; omega
  refine ⟨?_, by omega, fun q => (b5 (h3 (by omega))).2, fun q1 q2 => (b6 (h9 q1 q2)).2⟩
  unfold re_nm
  by_cases j0 : j = 0
  · rw [if_pos j0]; exact b4 h2
  · rw [if_neg j0]
    by_cases j1 : j = 1
    · rw [if_pos j1]; exact (b5 (h3 j0)).1
    · rw [if_neg j1]; exact (b6 (h9 j0 j1)).1
theorem xq_nw37 {n : Nat} (hM : re_M st nd kd fa sb tc sg wd ww so cd ws ad gs xcd xws ycd yws ybs ycs xad yad) (hn : n < nd) : ∀ d j, j + d = re_op (kd n) → ((∃ i, j ≤ i ∧ i < re_op (kd n) ∧ sg n < sg (re_nm fa sb tc n i)) → post 1) → ((¬ ∃ i, j ≤ i ∧ i < re_op (kd n) ∧ sg n < sg (re_nm fa sb tc n i)) → post 0) → wX_isNodeWrong_37 post (nI n) (nI (re_op (kd n))) (nI st) (nI nd) (nI bu) xad (nI nx) xga xto (ar_N kd) (ar_N sb) (ar_N tc) (ar_N sg) (ar_N wd) (ar_N fa) (ar_N ww) gs (ar_O so) xcd xws (ar_N rg) (ar_N ce) (ar_O nm) xon xgu (ar_N xdn) (ar_N xsn) (ar_N xpr) (ar_N xcl) xtr (ar_N ct) xlf xrt xlv (d + 1) (nI j) := by
  have hst := hM.1
  have b1 := (hM.2.1 n hn).1
  obtain ⟨o1, o2, o3, o4⟩ := re_opv (kk := kd n) (by omega)
  intro d
  induction d with
  | zero =>
    intro j hj h1 h0
    rw [wX_isNodeWrong_37]
    refine br_t (nI_le (by omega) (by omega)) (h0 ?_)
    rintro ⟨i, q1, q2, -⟩
    omega
  | succ d ih =>
    intro j hj h1 h0
    obtain ⟨r1, r2, -⟩ := re_nmB (j := j) hM hn (by omega)
    have s1 := (hM.2.1 (re_nm fa sb tc n j) (by omega)).2.2.2.2.2.2.2.1
    have s2 := (hM.2.1 n hn).2.2.2.2.2.2.2.1
    rw [wX_isNodeWrong_37]
    refine br_f (nI_ge (by omega) (by omega)) ?_
    refine xq_named (by omega) (by omega) ⟨vp_in_nI (by omega) (by omega), vp_in_nI (by omega) (by omega), ?_⟩
    rw [nI_clamp (by omega), nI_clamp (by omega), ar_Nap, ar_Nap]
    refine pk_le (sg (re_nm fa sb tc n j)) (sg n) (fun q w ew => ?_) (fun q => h1 ⟨j, Nat.le_refl _, by omega, q⟩)
    rw [ew, nI_1]
    refine ih (j + 1) (by omega) (fun ⟨i, c1, c2, c3⟩ => h1 ⟨i, by omega, c2, c3⟩) (fun c => h0 (fun ⟨i, c1, c2, c3⟩ => ?_))
    by_cases e : i = j
    · subst e; omega
    · exact c ⟨i, by omega, c2, c3⟩
theorem yq_early {n : Nat} (hM : re_M st nd kd fa sb tc sg wd ww so cd ws ad gs xcd xws ycd yws ybs ycs xad yad) (hn : n < nd) : ∀ d j, j + d = re_op (kd n) → ((∃ i, j ≤ i ∧ i < re_op (kd n) ∧ sg n < sg (re_nm fa sb tc n i)) → post 1) → ((¬ ∃ i, j ≤ i ∧ i < re_op (kd n) ∧ sg n < sg (re_nm fa sb tc n i)) → post 0) → wY_isEarly_2 post (nI n) (nI st) (nI nd) (nI bu) yad (nI wk) (nI nx) (nI kc1) (nI kc0) (nI kc2) (nI kc3) (nI kc4) (nI kc5) (nI kc6) (nI kc7) yts (nI gi) yga (ar_N ww) (ar_N rg) (ar_N ce) gs (ar_N kd) (ar_N fa) ybs ycs (ar_N sg) ywd (ar_O so) ycd yws (ar_N nb) (ar_N sy) (ar_N vl) (ar_N pv) (ar_N pc) ygu (ar_N gv) (ar_N dn) (ar_N wo) (ar_N pp) (ar_N yo) (ar_N wh) (ar_N wt) (ar_N wi) (ar_N tr) (ar_N tg) yone ytwo ylv (d + 1) (nI j) := by
  have hst := hM.1
  have b1 := (hM.2.1 n hn).1
  have bn := vp_in_nI (show n < 24 by omega) (show 24 < 2 ^ 31 by omega)
  obtain ⟨o1, o2, o3, o4⟩ := re_opv (kk := kd n) (by omega)
  intro d
  induction d with
  | zero =>
    intro j hj h1 h0
    rw [wY_isEarly_2, nI_clamp (by omega), ar_Nap]
    refine ⟨bn, yq_operands (by omega) (br_t (nI_le (by omega) (by omega)) (h0 ?_))⟩
    rintro ⟨i, q1, q2, -⟩
    omega
  | succ d ih =>
    intro j hj h1 h0
    obtain ⟨r1, r2, r3, r4⟩ := re_nmB (j := j) hM hn (by omega)
    have s1 := (hM.2.1 (re_nm fa sb tc n j) (by omega)).2.2.2.2.2.2.2.1
    have s2 := (hM.2.1 n hn).2.2.2.2.2.2.2.1
    rw [wY_isEarly_2, nI_clamp (by omega), ar_Nap]
    refine ⟨bn, yq_operands (by omega) (br_f (nI_ge (by omega) (by omega)) ?_)⟩
    refine yq_operand (sb := sb) (tc := tc) (by omega) (by omega) r3 r4 ⟨vp_in_nI (by omega) (by omega), bn, ?_⟩
    rw [nI_clamp (by omega), ar_Nap]
    refine pk_le (sg (re_nm fa sb tc n j)) (sg n) (fun q w ew => ?_) (fun q => h1 ⟨j, Nat.le_refl _, by omega, q⟩)
    rw [ew, nI_1]
    refine ih (j + 1) (by omega) (fun ⟨i, c1, c2, c3⟩ => h1 ⟨i, by omega, c2, c3⟩) (fun c => h0 (fun ⟨i, c1, c2, c3⟩ => ?_))
    by_cases e : i = j
    · subst e; omega
    · exact c ⟨i, by omega, c2, c3⟩
/-- nodes: the component -/
theorem xq_isNodeWrong {e k : Nat} (hM : re_M st nd kd fa sb tc sg wd ww so cd ws ad gs xcd xws ycd yws ybs ycs xad yad) (he : e = 1 ∨ e = 3) (hk : k < nd) (h1 : re_wr st nd kd fa sb tc sg wd ww so cd ws ad gs e k → post 1) (h0 : ¬ re_wr st nd kd fa sb tc sg wd ww so cd ws ad gs e k → post 0) : wpX_isNodeWrong post (nI st, nI nd, nI bu, xad, nI nx, xga, xto, ar_N kd, ar_N sb, ar_N tc, ar_N sg, ar_N wd, ar_N fa, ar_N ww, gs, ar_O so, xcd, xws, ar_N rg, ar_N ce, ar_O nm, xon, xgu, ar_N xdn, ar_N xsn, ar_N xpr, ar_N xcl, xtr, ar_N ct, xlf, xrt, xlv) (nI e) (nI k) := by
  have hst := hM.1
  have s2 := (hM.2.1 k hk).2.2.2.2.2.2.2.1
  have b1 := (hM.2.1 k hk).1
  have bn := vp_in_nI (show k < 24 by omega) (show 24 < 2 ^ 31 by omega)
  unfold wpX_isNodeWrong
  dsimp only
  rw [nI_clamp (by omega), ar_Nap, ar_Nap]
  rcases he with rfl | rfl
  · refine br_t rfl ⟨bn, ?_⟩
    refine pk_lt (sg k) st (fun q => h0 ?_) (fun q => h1 (Or.inl ⟨rfl, q⟩))
    unfold re_wr
    rintro (c | c | c | c | c | c) <;> omega
  · refine br_f (by decide) ⟨bn, ?_⟩
    refine xq_operands (by omega) ⟨re_op (kd k) + 1, xq_nw37 hM hk (re_op (kd k)) 0 (by omega) (fun ⟨i, _, q2, q3⟩ => h1 (Or.inr (Or.inr (Or.inl ⟨rfl, i, q2, q3⟩)))) (fun q => h0 ?_)⟩
    unfold re_wr
    rintro (c | c | c | c | c | c)
    · omega
    · omega
    · obtain ⟨-, i, q2, q3⟩ := c
      exact q ⟨i, Nat.zero_le _, q2, q3⟩
    · omega
    · omega
    · omega
theorem xq_gss {r : Nat} (hM : re_M st nd kd fa sb tc sg wd ww so cd ws ad gs xcd xws ycd yws ybs ycs xad yad) (hr : r < 6) : ∀ d n (some : Nat), some ≤ 1 → n + d = nd → (some = 1 ↔ ∃ m, m < n ∧ kd m = 1 ∧ fa m = r) → (∀ m, m < n → kd m = 1 → fa m = r → sg m = 0) →
    ((so r ≠ 0 ∧ (∃ n, n < nd ∧ kd n = 1 ∧ fa n = r) ∧ ∀ n, n < nd → kd n = 1 → fa n = r → sg n = 0) → post 1) → (¬ (so r ≠ 0 ∧ (∃ n, n < nd ∧ kd n = 1 ∧ fa n = r) ∧ ∀ n, n < nd → kd n = 1 → fa n = r → sg n = 0) → post 0) → wX_isGuessable_4 post (nI r) (nI st) (nI nd) (nI bu) xad (nI nx) xga xto (ar_N kd) (ar_N sb) (ar_N tc) (ar_N sg) (ar_N wd) (ar_N fa) (ar_N ww) gs (ar_O so) xcd xws (ar_N rg) (ar_N ce) (ar_O nm) xon xgu (ar_N xdn) (ar_N xsn) (ar_N xpr) (ar_N xcl) xtr (ar_N ct) xlf xrt xlv (d + 1) (nI some) (nI n) := by
  have hst := hM.1
  intro d
  induction d with
  | zero =>
    intro n some hs1 hn hs hz h1 h0
    have e : n = nd := by omega
    subst e
    have hso := (hM.2.2.2.1 r (by omega)).1
    rw [wX_isGuessable_4]
    refine br_t (nI_le (by omega) (by omega)) ?_
    refine pk_eq some 0 (fun q => h0 (fun c => ?_)) (fun q => ⟨vp_in_nI (by omega) (by omega), ?_⟩)
    · have := hs.mpr c.2.1; omega
    · rw [nI_clamp (by omega), ar_Oap]
      by_cases z : so r = 0
      · exact br_t (by rw [z]; decide) (h0 (fun c => c.1 z))
      · exact br_f (by rw [show (0 : Int32) = nI 0 from rfl, ar_ilt (by omega) (by omega)]; omega) (h1 ⟨z, hs.mp (by omega), hz⟩)
  | succ d ih =>
    intro n some hs1 hn hs hz h1 h0
    obtain ⟨b1, b2, b3, b4, -, -, -, b8, -⟩ := hM.2.1 n (by omega)
    have bn := vp_in_nI (show n < 24 by omega) (show 24 < 2 ^ 31 by omega)
    have skip : ¬ (kd n = 1 ∧ fa n = r) → ∀ w : Int32, w = nI n + 1 → wX_isGuessable_4 post (nI r) (nI st) (nI nd) (nI bu) xad (nI nx) xga xto (ar_N kd) (ar_N sb) (ar_N tc) (ar_N sg) (ar_N wd) (ar_N fa) (ar_N ww) gs (ar_O so) xcd xws (ar_N rg) (ar_N ce) (ar_O nm) xon xgu (ar_N xdn) (ar_N xsn) (ar_N xpr) (ar_N xcl) xtr (ar_N ct) xlf xrt xlv (d + 1) (nI some) w := by
      intro q w ew
      rw [ew, nI_1]
      refine ih (n + 1) some hs1 (by omega) (hs.trans ⟨fun ⟨m, c1, c2⟩ => ⟨m, by omega, c2⟩, fun ⟨m, c1, c2⟩ => ⟨m, ?_, c2⟩⟩) (fun m c1 c2 c3 => hz m ?_ c2 c3) h1 h0
      · rcases Nat.lt_or_ge m n with c | c
        · exact c
        · have e : m = n := by omega
          subst e; exact absurd c2 q
      · rcases Nat.lt_or_ge m n with c | c
        · exact c
        · have e : m = n := by omega
          subst e; exact absurd ⟨c2, c3⟩ q
    rw [wX_isGuessable_4]
    refine br_f (nI_ge (by omega) (by omega)) ⟨bn, ?_⟩
    rw [nI_clamp (by omega), ar_Nap, ar_Nap, ar_Nap]
    refine pk_eq (kd n) 1 (fun k1 => ⟨bn, ?_⟩) (fun k1 => skip (fun q => k1 q.1))
    have hf := b3 k1
    refine pk_eq (fa n) r (fun f1 => ⟨bn, ?_⟩) (fun f1 => skip (fun q => f1 q.2))
    refine pk_le (sg n) 0 (fun s0 w ew => ?_) (fun s0 => h0 (fun c => ?_))
    · rw [ew, nI_1]
      refine ih (n + 1) 1 (by omega) (by omega) ⟨fun _ => ⟨n, by omega, k1, f1⟩, fun _ => rfl⟩ (fun m c1 c2 c3 => ?_) h1 h0
      rcases Nat.lt_or_ge m n with c | c
      · exact hz m c c2 c3
      · have e : m = n := by omega
        subst e; omega
    · have := c.2.2 n (by omega) k1 f1
      omega
theorem yq_isRead {r b : Nat} (hM : re_M st nd kd fa sb tc sg wd ww so cd ws ad gs xcd xws ycd yws ybs ycs xad yad) (hr : r < 6) (hb : b ≤ 1) : ∀ d n, n + d = nd → ((∃ m, n ≤ m ∧ m < nd ∧ kd m = 1 ∧ fa m = r ∧ (b = 1 → sg m ≠ 0)) → post 1) → ((¬ ∃ m, n ≤ m ∧ m < nd ∧ kd m = 1 ∧ fa m = r ∧ (b = 1 → sg m ≠ 0)) → post 0) → wY_isRead_2 post (nI r) (nI b) (nI st) (nI nd) (nI bu) yad (nI wk) (nI nx) (nI kc1) (nI kc0) (nI kc2) (nI kc3) (nI kc4) (nI kc5) (nI kc6) (nI kc7) yts (nI gi) yga (ar_N ww) (ar_N rg) (ar_N ce) gs (ar_N kd) (ar_N fa) ybs ycs (ar_N sg) ywd (ar_O so) ycd yws (ar_N nb) (ar_N sy) (ar_N vl) (ar_N pv) (ar_N pc) ygu (ar_N gv) (ar_N dn) (ar_N wo) (ar_N pp) (ar_N yo) (ar_N wh) (ar_N wt) (ar_N wi) (ar_N tr) (ar_N tg) yone ytwo ylv (d + 1) (nI n) := by
  have hst := hM.1
  intro d
  induction d with
  | zero =>
    intro n hn h1 h0
    rw [wY_isRead_2]
    refine br_t (nI_le (by omega) (by omega)) (h0 ?_)
    rintro ⟨m, q1, q2, -⟩
    omega
  | succ d ih =>
    intro n hn h1 h0
    obtain ⟨b1, b2, b3, b4, -, -, -, b8, -⟩ := hM.2.1 n (by omega)
    have bn := vp_in_nI (show n < 24 by omega) (show 24 < 2 ^ 31 by omega)
    have skip : ¬ (kd n = 1 ∧ fa n = r ∧ (b = 1 → sg n ≠ 0)) → ∀ w : Int32, w = nI n + 1 → wY_isRead_2 post (nI r) (nI b) (nI st) (nI nd) (nI bu) yad (nI wk) (nI nx) (nI kc1) (nI kc0) (nI kc2) (nI kc3) (nI kc4) (nI kc5) (nI kc6) (nI kc7) yts (nI gi) yga (ar_N ww) (ar_N rg) (ar_N ce) gs (ar_N kd) (ar_N fa) ybs ycs (ar_N sg) ywd (ar_O so) ycd yws (ar_N nb) (ar_N sy) (ar_N vl) (ar_N pv) (ar_N pc) ygu (ar_N gv) (ar_N dn) (ar_N wo) (ar_N pp) (ar_N yo) (ar_N wh) (ar_N wt) (ar_N wi) (ar_N tr) (ar_N tg) yone ytwo ylv (d + 1) w := by
      intro q w ew
      rw [ew, nI_1]
      refine ih (n + 1) (by omega) (fun ⟨m, c1, c2⟩ => h1 ⟨m, by omega, c2⟩) (fun c => h0 (fun ⟨m, c1, c2, c3⟩ => ?_))
      by_cases e : m = n
      · subst e; exact q c3
      · exact c ⟨m, by omega, c2, c3⟩
    rw [wY_isRead_2]
    refine br_f (nI_ge (by omega) (by omega)) ⟨bn, ?_⟩
    rw [nI_clamp (by omega), ar_Nap, ar_Nap, ar_Nap]
    refine pk_eq (kd n) 1 (fun k1 => ⟨bn, ?_⟩) (fun k1 => skip (fun q => k1 q.1))
    have hf := b3 k1
    refine pk_eq (fa n) r (fun f1 => ?_) (fun f1 => skip (fun q => f1 q.2.1))
    refine pk_eq b 0 (fun b0 => h1 ⟨n, Nat.le_refl _, by omega, k1, f1, fun q => by omega⟩) (fun b0 => ⟨bn, ?_⟩)
    exact pk_eq (sg n) 0 (fun s0 => skip (fun q => q.2.2 (by omega) s0)) (fun s0 => h1 ⟨n, Nat.le_refl _, by omega, k1, f1, fun _ => s0⟩)
end
end
section
/-! faults, both sides -/
section
variable {st nd bu nx wk kc1 kc0 kc2 kc3 kc4 kc5 kc6 kc7 gi ad : Nat} {xad xga xto yad yts yga : Int32} {kd sb tc sg wd fa ww so rg ce nm xdn xsn xpr xcl ct nb sy vl pv pc gv dn wo pp yo wh wt wi tr tg cd ws : Nat → Nat} {gs xcd xws xon xgu xlf xrt xlv ybs ycs ywd ycd yws ygu yone ytwo ylv : Nat → Int32} {xtr : Nat → Int64}
variable {post : Int32 → Prop}
/-- the greatest stage of what a write names -/
theorem xq_stageFor {t : Nat} (hM : re_M st nd kd fa sb tc sg wd ww so cd ws ad gs xcd xws ycd yws ybs ycs xad yad) (ht : t < 7) (hso : so t ≠ 0) (hp : ∀ M : Nat, M ≤ 4 → (M ≤ ws t ↔ ¬ (ws t < sg (so t - 1) ∨ (cd t ≠ 0 ∧ ws t < sg (cd t - 1)) ∨ (t = 6 ∧ ws t < sg ad))) → post (nI M)) : wpX_stageFor post (nI st, nI nd, nI bu, xad, nI nx, xga, xto, ar_N kd, ar_N sb, ar_N tc, ar_N sg, ar_N wd, ar_N fa, ar_N ww, gs, ar_O so, xcd, xws, ar_N rg, ar_N ce, ar_O nm, xon, xgu, ar_N xdn, ar_N xsn, ar_N xpr, ar_N xcl, xtr, ar_N ct, xlf, xrt, xlv) (nI t) := by
  have hst := hM.1
  obtain ⟨s1, s2⟩ := hM.2.2.2.1 t ht
  obtain ⟨c1, c2, c3, w1, w2, w3⟩ := s2 hso
  obtain ⟨m, hm⟩ : ∃ m, so t = m + 1 := ⟨so t - 1, by omega⟩
  have b7 := vp_in_nI ht (show 7 < 2 ^ 31 by omega)
  have sm := (hM.2.1 m (by omega)).2.2.2.2.2.2.2.1
  rw [hm, Nat.add_sub_cancel] at hp
  unfold wpX_stageFor
  dsimp only
  rw [nI_clamp (by omega), ar_Oap, hm, ar_is, nI_clamp (by omega), ar_Nap, c1]
  refine ⟨b7, vp_in_nI (by omega) (by omega), fun y ey => ⟨b7, ?_⟩⟩
  rw [ey]
  -- behind the condition
  have fin : ∀ M : Nat, M ≤ 4 → (M ≤ ws t ↔ ¬ (ws t < sg m ∨ (cd t ≠ 0 ∧ ws t < sg (cd t - 1)))) → wX_stageFor_37 post (nI t) (nI M) (nI st) (nI nd) (nI bu) xad (nI nx) xga xto (ar_N kd) (ar_N sb) (ar_N tc) (ar_N sg) (ar_N wd) (ar_N fa) (ar_N ww) gs (ar_O so) xcd xws (ar_N rg) (ar_N ce) (ar_O nm) xon xgu (ar_N xdn) (ar_N xsn) (ar_N xpr) (ar_N xcl) xtr (ar_N ct) xlf xrt xlv := by
    intro M hM4 hMw
    unfold wX_stageFor_37
    refine pk_eq t 6 (fun h6 => ?_) (fun h6 => hp M hM4 (hMw.trans ⟨fun q c => ?_, fun q c => q ?_⟩))
    · obtain ⟨a1, a2, a3⟩ := hM.2.2.2.2 (by rw [← h6]; omega)
      have sa := (hM.2.1 ad a3).2.2.2.2.2.2.2.1
      rw [a1]
      refine ⟨vp_in_nI (by omega) (by omega), ?_⟩
      rw [nI_clamp (by omega), ar_Nap]
      refine xq_greater (by omega) (by omega) ?_
      by_cases c : M ≤ sg ad
      · rw [if_pos c]
        refine hp _ sa ⟨fun q d => ?_, fun q => ?_⟩
        · have := hMw.mp (by omega)
          rcases d with d | d | d
          · exact this (Or.inl d)
          · exact this (Or.inr d)
          · omega
        · rcases Nat.lt_or_ge (ws t) (sg ad) with d | d
          · exact absurd (Or.inr (Or.inr ⟨h6, d⟩)) q
          · exact d
      · rw [if_neg c]
        refine hp _ hM4 ⟨fun q d => ?_, fun q => hMw.mpr (fun d => q ?_)⟩
        · have := hMw.mp q
          rcases d with d | d | d
          · exact this (Or.inl d)
          · exact this (Or.inr d)
          · omega
        · rcases d with d | d
          · exact Or.inl d
          · exact Or.inr (Or.inl d)
    · rcases c with c | c | c
      · exact q (Or.inl c)
      · exact q (Or.inr c)
      · exact h6 c.1
    · rcases c with c | c
      · exact Or.inl c
      · exact Or.inr (Or.inl c)
  by_cases z : cd t = 0
  · refine br_t (by rw [z]; decide) (fin _ sm ⟨fun q d => ?_, fun q => ?_⟩)
    · rcases d with d | d
      · omega
      · exact d.1 z
    · rcases Nat.lt_or_ge (ws t) (sg m) with d | d
      · exact absurd (Or.inl d) q
      · exact d
  · obtain ⟨d', hd⟩ : ∃ d', cd t = d' + 1 := ⟨cd t - 1, by omega⟩
    have sd := (hM.2.1 d' (by omega)).2.2.2.2.2.2.2.1
    rw [hd, Nat.add_sub_cancel] at fin
    rw [hd, ar_is]
    refine br_f (nI_pos (by omega)) ⟨b7, vp_in_nI (by omega) (by omega), ?_⟩
    rw [nI_clamp (by omega), ar_Nap]
    refine xq_greater (by omega) (by omega) ?_
    by_cases c : sg m ≤ sg d'
    · rw [if_pos c]
      exact fin _ sd (by omega)
    · rw [if_neg c]
      exact fin _ sm (by omega)
/-- writes: the component -/
theorem xq_isWrong {e t : Nat} (hM : re_M st nd kd fa sb tc sg wd ww so cd ws ad gs xcd xws ycd yws ybs ycs xad yad) (he : e = 2 ∨ e = 4 ∨ e = 5 ∨ e = 6) (ht : t < 7) (h1 : re_wr st nd kd fa sb tc sg wd ww so cd ws ad gs e t → post 1) (h0 : ¬ re_wr st nd kd fa sb tc sg wd ww so cd ws ad gs e t → post 0) : wpX_isWrong post (nI st, nI nd, nI bu, xad, nI nx, xga, xto, ar_N kd, ar_N sb, ar_N tc, ar_N sg, ar_N wd, ar_N fa, ar_N ww, gs, ar_O so, xcd, xws, ar_N rg, ar_N ce, ar_O nm, xon, xgu, ar_N xdn, ar_N xsn, ar_N xpr, ar_N xcl, xtr, ar_N ct, xlf, xrt, xlv) (nI e) (nI t) := by
  have hst := hM.1
  obtain ⟨s1, s2⟩ := hM.2.2.2.1 t ht
  have b7 := vp_in_nI ht (show 7 < 2 ^ 31 by omega)
  have h16 := re_w16 hM
  have neg : so t ≠ 0 → ¬ ar_O so t < 0 := by
    intro z
    rw [ar_Oap, show (0 : Int32) = nI 0 from rfl, ar_ilt (by omega) (by omega)]; omega
  have pos : so t = 0 → ar_O so t < 0 := by
    intro z
    rw [ar_Oap, z]; decide
  unfold wpX_isWrong
  dsimp only
  rw [nI_clamp (by omega)]
  rcases he with rfl | rfl | rfl | rfl
  · refine br_f (by decide) (br_f (by decide) (br_t rfl ⟨b7, ?_⟩))
    by_cases z : so t = 0
    · refine br_t (pos z) (h0 ?_)
      unfold re_wr
      rintro (c | c | c | c | c | c) <;> omega
    · obtain ⟨c1, c2, c3, w1, w2, w3⟩ := s2 z
      refine br_f (neg z) ⟨b7, ?_⟩
      rw [w1]
      refine pk_lt (ws t) st (fun q => h0 ?_) (fun q => h1 (Or.inr (Or.inl ⟨rfl, z, q⟩)))
      unfold re_wr
      rintro (c | c | c | c | c | c) <;> omega
  · refine br_f (by decide) (br_f (by decide) (br_f (by decide) (br_f (by decide) (br_t rfl ⟨b7, ?_⟩))))
    by_cases z : so t = 0
    · refine br_t (pos z) (h0 ?_)
      unfold re_wr
      rintro (c | c | c | c | c | c) <;> omega
    · obtain ⟨c1, c2, c3, w1, w2, w3⟩ := s2 z
      refine br_f (neg z) ⟨b7, ?_⟩
      refine xq_stageFor hM ht z (fun M hM4 hMw => ?_)
      rw [w1]
      refine pk_le M (ws t) (fun q => h0 ?_) (fun q => h1 ?_)
      · unfold re_wr
        rintro (c | c | c | c | c | c)
        · omega
        · omega
        · omega
        · exact hMw.mp q c.2.2
        · omega
        · omega
      · refine Or.inr (Or.inr (Or.inr (Or.inl ⟨rfl, z, ?_⟩)))
        by_cases c : ws t < sg (so t - 1) ∨ (cd t ≠ 0 ∧ ws t < sg (cd t - 1)) ∨ (t = 6 ∧ ws t < sg ad)
        · exact c
        · have := hMw.mpr c; omega
  · refine br_f (by decide) (br_f (by decide) (br_f (by decide) (br_f (by decide) (br_f (by decide) (br_t rfl ⟨b7, ?_⟩)))))
    by_cases z : so t = 0
    · refine br_t (pos z) (h0 ?_)
      unfold re_wr
      rintro (c | c | c | c | c | c) <;> omega
    · obtain ⟨m, hm⟩ : ∃ m, so t = m + 1 := ⟨so t - 1, by omega⟩
      have wm := h16 m (by omega)
      refine br_f (neg z) ⟨b7, ?_⟩
      rw [ar_Oap, hm, ar_is]
      refine ⟨vp_in_nI (by omega) (by omega), ?_⟩
      rw [nI_clamp (by omega), ar_Nap]
      have key : ∀ W : Nat, W = (if t = 6 then 8 else ww t) → W ≤ 16 → wX_isWrong_126 post (nI W) (nI (wd m)) (nI st) (nI nd) (nI bu) xad (nI nx) xga xto (ar_N kd) (ar_N sb) (ar_N tc) (ar_N sg) (ar_N wd) (ar_N fa) (ar_N ww) gs (ar_O so) xcd xws (ar_N rg) (ar_N ce) (ar_O nm) xon xgu (ar_N xdn) (ar_N xsn) (ar_N xpr) (ar_N xcl) xtr (ar_N ct) xlf xrt xlv := by
        intro W hW hW16
        unfold wX_isWrong_126
        refine pk_le (wd m) W (fun q => h0 ?_) (fun q => h1 (Or.inr (Or.inr (Or.inr (Or.inr (Or.inl ⟨rfl, z, ?_⟩))))))
        · unfold re_wr
          rw [hm, Nat.add_sub_cancel]
          rintro (c | c | c | c | c | c) <;> omega
        · rw [hm, Nat.add_sub_cancel]; omega
      refine pk_eq t 6 (fun h6 => key 8 (by rw [if_pos h6]) (by omega)) (fun h6 => ⟨vp_in_nI (by omega) (by omega), ?_⟩)
      exact key (ww t) (by rw [if_neg h6]) (hM.2.2.1 t (by omega)).2.1
  · refine br_f (by decide) (br_t (by decide) ?_)
    unfold wX_isWrong_135
    refine pk_eq t 6 (fun h6 => h0 ?_) (fun h6 => ⟨vp_in_nI (by omega) (by omega), ?_⟩)
    · unfold re_wr
      rintro (c | c | c | c | c | c) <;> omega
    · rw [nI_clamp (by omega)]
      have g9 := (hM.2.2.1 t (by omega)).2.2
      by_cases g : gs t = 9
      · refine br_t (by rw [g]; decide) (h0 ?_)
        unfold re_wr
        rintro (c | c | c | c | c | c)
        · omega
        · omega
        · omega
        · omega
        · omega
        · exact c.2.2.1 g
      · have ng : ¬ 9 ≤ gs t := fun q => g (Int32.le_antisymm g9 q)
        refine br_f ng ⟨nd + 1, xq_gss hM (by omega) nd 0 0 (by omega) (by omega) ⟨fun q => absurd q (by omega), fun ⟨m, q, _⟩ => absurd q (by omega)⟩ (fun m q => absurd q (by omega)) (fun q => br_f (by decide) (h0 ?_)) (fun q => br_t rfl (h1 (Or.inr (Or.inr (Or.inr (Or.inr (Or.inr ⟨rfl, by omega, g, q⟩)))))))⟩
        unfold re_wr
        rintro (c | c | c | c | c | c)
        · omega
        · omega
        · omega
        · omega
        · omega
        · exact c.2.2.2 q
/-- writes: the reference -/
theorem yq_isWrong {e t : Nat} (hM : re_M st nd kd fa sb tc sg wd ww so cd ws ad gs xcd xws ycd yws ybs ycs xad yad) (hwd : ∀ n, n < nd → ywd n = nI (wd n)) (he : e = 2 ∨ e = 4 ∨ e = 5 ∨ e = 6) (ht : t < 7) (h1 : re_wr st nd kd fa sb tc sg wd ww so cd ws ad gs e t → post 1) (h0 : ¬ re_wr st nd kd fa sb tc sg wd ww so cd ws ad gs e t → post 0) : wpY_isWrong post (nI st, nI nd, nI bu, yad, nI wk, nI nx, nI kc1, nI kc0, nI kc2, nI kc3, nI kc4, nI kc5, nI kc6, nI kc7, yts, nI gi, yga, ar_N ww, ar_N rg, ar_N ce, gs, ar_N kd, ar_N fa, ybs, ycs, ar_N sg, ywd, ar_O so, ycd, yws, ar_N nb, ar_N sy, ar_N vl, ar_N pv, ar_N pc, ygu, ar_N gv, ar_N dn, ar_N wo, ar_N pp, ar_N yo, ar_N wh, ar_N wt, ar_N wi, ar_N tr, ar_N tg, yone, ytwo, ylv) (nI t) (nI e) := by
  have hst := hM.1
  obtain ⟨s1, s2⟩ := hM.2.2.2.1 t ht
  have b7 := vp_in_nI ht (show 7 < 2 ^ 31 by omega)
  have h16 := re_w16 hM
  have neg : so t ≠ 0 → ¬ ar_O so t < 0 := by
    intro z
    rw [ar_Oap, show (0 : Int32) = nI 0 from rfl, ar_ilt (by omega) (by omega)]; omega
  have pos : so t = 0 → ar_O so t < 0 := by
    intro z
    rw [ar_Oap, z]; decide
  unfold wpY_isWrong
  dsimp only
  rw [nI_clamp (by omega)]
  refine ⟨b7, ?_⟩
  rcases he with rfl | rfl | rfl | rfl
  · by_cases z : so t = 0
    · refine br_t (pos z) ?_
      unfold wY_isWrong_14
      refine br_f (by decide) (br_f (by decide) (br_t rfl (br_t rfl (h0 ?_))))
      unfold re_wr
      rintro (c | c | c | c | c | c) <;> omega
    · obtain ⟨c1, c2, c3, w1, w2, w3⟩ := s2 z
      refine br_f (neg z) ?_
      unfold wY_isWrong_14
      refine br_f (by decide) (br_f (by decide) (br_t rfl (br_f (by decide) ⟨b7, ?_⟩)))
      rw [nI_clamp (by omega), w2]
      refine pk_lt (ws t) st (fun q => h0 ?_) (fun q => h1 (Or.inr (Or.inl ⟨rfl, z, q⟩)))
      unfold re_wr
      rintro (c | c | c | c | c | c) <;> omega
  · by_cases z : so t = 0
    · refine br_t (pos z) ?_
      unfold wY_isWrong_14
      refine br_f (by decide) (br_f (by decide) (br_f (by decide) (br_f (by decide) (br_t rfl (br_t rfl (h0 ?_))))))
      unfold re_wr
      rintro (c | c | c | c | c | c) <;> omega
    · obtain ⟨c1, c2, c3, w1, w2, w3⟩ := s2 z
      obtain ⟨m, hm⟩ : ∃ m, so t = m + 1 := ⟨so t - 1, by omega⟩
      have sm := (hM.2.1 m (by omega)).2.2.2.2.2.2.2.1
      have yes : (ws t < sg m ∨ (cd t ≠ 0 ∧ ws t < sg (cd t - 1)) ∨ (t = 6 ∧ ws t < sg ad)) → post 1 := by
        intro q
        refine h1 (Or.inr (Or.inr (Or.inr (Or.inl ⟨rfl, z, ?_⟩))))
        rw [hm, Nat.add_sub_cancel]
        exact q
      have no : ¬ (ws t < sg m ∨ (cd t ≠ 0 ∧ ws t < sg (cd t - 1)) ∨ (t = 6 ∧ ws t < sg ad)) → post 0 := by
        intro q
        refine h0 ?_
        unfold re_wr
        rw [hm, Nat.add_sub_cancel]
        rintro (c | c | c | c | c | c)
        · omega
        · omega
        · omega
        · exact q c.2.2
        · omega
        · omega
      refine br_f (neg z) ?_
      unfold wY_isWrong_14
      refine br_f (by decide) (br_f (by decide) (br_f (by decide) (br_f (by decide) (br_t rfl (br_f (by decide) ⟨b7, ?_⟩)))))
      rw [nI_clamp (by omega), ar_Oap, hm, ar_is, w2, c2]
      refine ⟨vp_in_nI (by omega) (by omega), b7, ?_⟩
      rw [nI_clamp (by omega), ar_Nap]
      refine pk_lt (ws t) (sg m) (fun q => yes (Or.inl q)) (fun q => ⟨b7, ?_⟩)
      have fin : ¬ (cd t ≠ 0 ∧ ws t < sg (cd t - 1)) → wY_isWrong_124 post (nI t) (nI st) (nI nd) (nI bu) yad (nI wk) (nI nx) (nI kc1) (nI kc0) (nI kc2) (nI kc3) (nI kc4) (nI kc5) (nI kc6) (nI kc7) yts (nI gi) yga (ar_N ww) (ar_N rg) (ar_N ce) gs (ar_N kd) (ar_N fa) ybs ycs (ar_N sg) ywd (ar_O so) ycd yws (ar_N nb) (ar_N sy) (ar_N vl) (ar_N pv) (ar_N pc) ygu (ar_N gv) (ar_N dn) (ar_N wo) (ar_N pp) (ar_N yo) (ar_N wh) (ar_N wt) (ar_N wi) (ar_N tr) (ar_N tg) yone ytwo ylv := by
        intro qc
        unfold wY_isWrong_124
        refine pk_eq t 6 (fun h6 => ?_) (fun h6 => no ?_)
        · obtain ⟨a1, a2, a3⟩ := hM.2.2.2.2 (by rw [← h6]; omega)
          have sa := (hM.2.1 ad a3).2.2.2.2.2.2.2.1
          rw [a2]
          refine ⟨vp_in_nI (by omega) (by omega), b7, ?_⟩
          rw [nI_clamp (by omega), nI_clamp (by omega), ar_Nap, w2]
          refine pk_le (sg ad) (ws t) (fun d => no ?_) (fun d => yes (Or.inr (Or.inr ⟨h6, d⟩)))
          rintro (c | c | c)
          · omega
          · exact qc c
          · omega
        · rintro (c | c | c)
          · omega
          · exact qc c
          · omega
      by_cases zc : cd t = 0
      · exact br_t (by rw [zc]; decide) (fin (fun c => c.1 zc))
      · obtain ⟨d', hd⟩ : ∃ d', cd t = d' + 1 := ⟨cd t - 1, by omega⟩
        have sd := (hM.2.1 d' (by omega)).2.2.2.2.2.2.2.1
        rw [hd, Nat.add_sub_cancel] at fin yes
        rw [hd, ar_is]
        refine br_f (nI_pos (by omega)) ⟨b7, vp_in_nI (by omega) (by omega), b7, ?_⟩
        rw [nI_clamp (by omega), ar_Nap]
        exact pk_lt (ws t) (sg d') (fun d => yes (Or.inr (Or.inl ⟨by omega, d⟩))) (fun d => fin (by omega))
  · by_cases z : so t = 0
    · refine br_t (pos z) ?_
      unfold wY_isWrong_14
      refine br_f (by decide) (br_f (by decide) (br_f (by decide) (br_f (by decide) (br_f (by decide) (br_t rfl (br_t rfl (h0 ?_)))))))
      unfold re_wr
      rintro (c | c | c | c | c | c) <;> omega
    · obtain ⟨m, hm⟩ : ∃ m, so t = m + 1 := ⟨so t - 1, by omega⟩
      have wm := h16 m (by omega)
      refine br_f (neg z) ?_
      unfold wY_isWrong_14
      refine br_f (by decide) (br_f (by decide) (br_f (by decide) (br_f (by decide) (br_f (by decide) (br_t rfl (br_f (by decide) ⟨b7, ?_⟩))))))
      rw [nI_clamp (by omega), ar_Oap, hm, ar_is]
      refine ⟨vp_in_nI (by omega) (by omega), ?_⟩
      rw [nI_clamp (by omega), hwd m (by omega)]
      have key : ∀ W : Nat, W = (if t = 6 then 8 else ww t) → W ≤ 16 → wY_isWrong_186 post (nI W) (nI (wd m)) (nI st) (nI nd) (nI bu) yad (nI wk) (nI nx) (nI kc1) (nI kc0) (nI kc2) (nI kc3) (nI kc4) (nI kc5) (nI kc6) (nI kc7) yts (nI gi) yga (ar_N ww) (ar_N rg) (ar_N ce) gs (ar_N kd) (ar_N fa) ybs ycs (ar_N sg) ywd (ar_O so) ycd yws (ar_N nb) (ar_N sy) (ar_N vl) (ar_N pv) (ar_N pc) ygu (ar_N gv) (ar_N dn) (ar_N wo) (ar_N pp) (ar_N yo) (ar_N wh) (ar_N wt) (ar_N wi) (ar_N tr) (ar_N tg) yone ytwo ylv := by
        intro W hW hW16
        unfold wY_isWrong_186
        refine pk_le (wd m) W (fun q => h0 ?_) (fun q => h1 (Or.inr (Or.inr (Or.inr (Or.inr (Or.inl ⟨rfl, z, ?_⟩))))))
        · unfold re_wr
          rw [hm, Nat.add_sub_cancel]
          rintro (c | c | c | c | c | c) <;> omega
        · rw [hm, Nat.add_sub_cancel]; omega
      refine pk_eq t 6 (fun h6 => key 8 (by rw [if_pos h6]) (by omega)) (fun h6 => ⟨vp_in_nI (by omega) (by omega), ?_⟩)
      exact key (ww t) (by rw [if_neg h6]) (hM.2.2.1 t (by omega)).2.1
  · have fin : ∀ b : Nat, b ≤ 1 → (b = 0 ↔ so t = 0) → wY_isWrong_195 post (nI t) (nI b) (nI st) (nI nd) (nI bu) yad (nI wk) (nI nx) (nI kc1) (nI kc0) (nI kc2) (nI kc3) (nI kc4) (nI kc5) (nI kc6) (nI kc7) yts (nI gi) yga (ar_N ww) (ar_N rg) (ar_N ce) gs (ar_N kd) (ar_N fa) ybs ycs (ar_N sg) ywd (ar_O so) ycd yws (ar_N nb) (ar_N sy) (ar_N vl) (ar_N pv) (ar_N pc) ygu (ar_N gv) (ar_N dn) (ar_N wo) (ar_N pp) (ar_N yo) (ar_N wh) (ar_N wt) (ar_N wi) (ar_N tr) (ar_N tg) yone ytwo ylv := by
      intro b hb hbs
      unfold wY_isWrong_195
      refine pk_le 6 t (fun h6 => h0 ?_) (fun h6 => ⟨vp_in_nI (by omega) (by omega), ?_⟩)
      · unfold re_wr
        rintro (c | c | c | c | c | c) <;> omega
      · rw [nI_clamp (by omega)]
        have yes : gs t ≠ 9 → ¬ (so t ≠ 0 ∧ (∃ n, n < nd ∧ kd n = 1 ∧ fa n = t) ∧ ∀ n, n < nd → kd n = 1 → fa n = t → sg n = 0) → post 1 := fun g q => h1 (Or.inr (Or.inr (Or.inr (Or.inr (Or.inr ⟨rfl, by omega, g, q⟩)))))
        refine br_c (fun g => h0 ?_) (fun g => ?_)
        · unfold re_wr
          rintro (c | c | c | c | c | c)
          · omega
          · omega
          · omega
          · omega
          · omega
          · exact c.2.2.1 g
        · refine pk_eq b 0 (fun q => yes g (fun c => c.1 (hbs.mp q))) (fun q => ?_)
          refine ⟨nd + 1, yq_isRead (b := 0) hM (by omega) (by omega) nd 0 (by omega) (fun ⟨m, _, m2, m3, m4, _⟩ => ?_) (fun c => br_t rfl (yes g (fun d => ?_)))⟩
          · refine br_f (by decide) ⟨nd + 1, yq_isRead (b := 1) hM (by omega) (by omega) nd 0 (by omega) (fun ⟨l, _, l2, l3, l4, l5⟩ => br_f (by decide) (yes g (fun d => l5 rfl (d.2.2 l l2 l3 l4)))) (fun c => br_t rfl (h0 ?_))⟩
            unfold re_wr
            rintro (a | a | a | a | a | a)
            · omega
            · omega
            · omega
            · omega
            · omega
            · refine a.2.2.2 ⟨fun s0 => q (hbs.mpr s0), ⟨m, m2, m3, m4⟩, fun n n1 n2 n3 => ?_⟩
              by_cases s0 : sg n = 0
              · exact s0
              · exact absurd ⟨n, Nat.zero_le _, n1, n2, n3, fun _ => s0⟩ c
          · obtain ⟨-, ⟨l, l1, l2, l3⟩, -⟩ := d
            exact c ⟨l, Nat.zero_le _, l1, l2, l3, fun h => absurd h (by omega)⟩
    by_cases z : so t = 0
    · refine br_t (pos z) ?_
      unfold wY_isWrong_14
      exact br_f (by decide) (br_t (by decide) (fin 0 (by omega) ⟨fun _ => z, fun _ => rfl⟩))
    · refine br_f (neg z) ?_
      unfold wY_isWrong_14
      exact br_f (by decide) (br_t (by decide) (fin 1 (by omega) ⟨fun q => absurd q (by omega), fun q => absurd q z⟩))
end
end
section
/-! building -/
def re_on (e : Nat) : Nat := if e = 1 ∨ e = 3 then 1 else 0
section
variable {st nd bu nx wk kc1 kc0 kc2 kc3 kc4 kc5 kc6 kc7 gi ad : Nat} {xad xga xto yad yts yga : Int32} {kd sb tc sg wd fa ww so rg ce nm xdn xsn xpr xcl ct nb sy vl pv pc gv dn wo pp yo wh wt wi tr tg cd ws : Nat → Nat} {gs xcd xws xon xgu xlf xrt xlv ybs ycs ywd ycd yws ygu yone ytwo ylv : Nat → Int32} {xtr : Nat → Int64}
theorem pr_finner {e : Nat} (hM : re_M st nd kd fa sb tc sg wd ww so cd ws ad gs xcd xws ycd yws ybs ycs xad yad) (hwd : ∀ n, n < nd → ywd n = nI (wd n)) (he1 : 1 ≤ e) (he : e < 7) : ∀ d k, k + d = re_bn nd e →
    (∃ r : Nat, r ≠ 0 ∧ r < 1000 ∧ (∀ (post J2 : Int32 → Prop), post (nI r) → wX_fault_26 post J2 (nI e) (nI (re_on e)) (nI st) (nI nd) (nI bu) xad (nI nx) xga xto (ar_N kd) (ar_N sb) (ar_N tc) (ar_N sg) (ar_N wd) (ar_N fa) (ar_N ww) gs (ar_O so) xcd xws (ar_N rg) (ar_N ce) (ar_O nm) xon xgu (ar_N xdn) (ar_N xsn) (ar_N xpr) (ar_N xcl) xtr (ar_N ct) xlf xrt xlv (d + 1) (nI k)) ∧ (∀ (poss : Int32 → SY → Prop) (J15 : Int32 → Prop), poss (nI r) (nI st, nI nd, nI bu, yad, nI wk, nI nx, nI kc1, nI kc0, nI kc2, nI kc3, nI kc4, nI kc5, nI kc6, nI kc7, yts, nI gi, yga, ar_N ww, ar_N rg, ar_N ce, gs, ar_N kd, ar_N fa, ybs, ycs, ar_N sg, ywd, ar_O so, ycd, yws, ar_N nb, ar_N sy, ar_N vl, ar_N pv, ar_N pc, ygu, ar_N gv, ar_N dn, ar_N wo, ar_N pp, ar_N yo, ar_N wh, ar_N wt, ar_N wi, ar_N tr, ar_N tg, yone, ytwo, ylv) → wY_build_39 poss J15 (nI e) (nI (re_on e)) (nI st) (nI nd) (nI bu) yad (nI wk) (nI nx) (nI kc1) (nI kc0) (nI kc2) (nI kc3) (nI kc4) (nI kc5) (nI kc6) (nI kc7) yts (nI gi) yga (ar_N ww) (ar_N rg) (ar_N ce) gs (ar_N kd) (ar_N fa) ybs ycs (ar_N sg) ywd (ar_O so) ycd yws (ar_N nb) (ar_N sy) (ar_N vl) (ar_N pv) (ar_N pc) ygu (ar_N gv) (ar_N dn) (ar_N wo) (ar_N pp) (ar_N yo) (ar_N wh) (ar_N wt) (ar_N wi) (ar_N tr) (ar_N tg) yone ytwo ylv (d + 1) (nI k))) ∨
    ((∀ i, k ≤ i → i < re_bn nd e → ¬ re_wr st nd kd fa sb tc sg wd ww so cd ws ad gs e i) ∧ (∀ (post J2 : Int32 → Prop), J2 (nI (e + 1)) → wX_fault_26 post J2 (nI e) (nI (re_on e)) (nI st) (nI nd) (nI bu) xad (nI nx) xga xto (ar_N kd) (ar_N sb) (ar_N tc) (ar_N sg) (ar_N wd) (ar_N fa) (ar_N ww) gs (ar_O so) xcd xws (ar_N rg) (ar_N ce) (ar_O nm) xon xgu (ar_N xdn) (ar_N xsn) (ar_N xpr) (ar_N xcl) xtr (ar_N ct) xlf xrt xlv (d + 1) (nI k)) ∧ (∀ (poss : Int32 → SY → Prop) (J15 : Int32 → Prop), J15 (nI (e + 1)) → wY_build_39 poss J15 (nI e) (nI (re_on e)) (nI st) (nI nd) (nI bu) yad (nI wk) (nI nx) (nI kc1) (nI kc0) (nI kc2) (nI kc3) (nI kc4) (nI kc5) (nI kc6) (nI kc7) yts (nI gi) yga (ar_N ww) (ar_N rg) (ar_N ce) gs (ar_N kd) (ar_N fa) ybs ycs (ar_N sg) ywd (ar_O so) ycd yws (ar_N nb) (ar_N sy) (ar_N vl) (ar_N pv) (ar_N pc) ygu (ar_N gv) (ar_N dn) (ar_N wo) (ar_N pp) (ar_N yo) (ar_N wh) (ar_N wt) (ar_N wi) (ar_N tr) (ar_N tg) yone ytwo ylv (d + 1) (nI k))) := by
  have hst := hM.1
  have hN : re_bn nd e ≤ 24 := by unfold re_bn; by_cases c : e = 1 ∨ e = 3 <;> simp only [c, if_true, if_false] <;> omega
  -- the loops' heads
  have hX : ∀ (post J2 : Int32 → Prop) (f k : Nat), wX_fault_40 post J2 (wX_fault_26 post J2 (nI e) (nI (re_on e)) (nI st) (nI nd) (nI bu) xad (nI nx) xga xto (ar_N kd) (ar_N sb) (ar_N tc) (ar_N sg) (ar_N wd) (ar_N fa) (ar_N ww) gs (ar_O so) xcd xws (ar_N rg) (ar_N ce) (ar_O nm) xon xgu (ar_N xdn) (ar_N xsn) (ar_N xpr) (ar_N xcl) xtr (ar_N ct) xlf xrt xlv f) (nI e) (nI (re_on e)) (nI k) (nI (re_bn nd e)) (nI k) (nI st) (nI nd) (nI bu) xad (nI nx) xga xto (ar_N kd) (ar_N sb) (ar_N tc) (ar_N sg) (ar_N wd) (ar_N fa) (ar_N ww) gs (ar_O so) xcd xws (ar_N rg) (ar_N ce) (ar_O nm) xon xgu (ar_N xdn) (ar_N xsn) (ar_N xpr) (ar_N xcl) xtr (ar_N ct) xlf xrt xlv → wX_fault_26 post J2 (nI e) (nI (re_on e)) (nI st) (nI nd) (nI bu) xad (nI nx) xga xto (ar_N kd) (ar_N sb) (ar_N tc) (ar_N sg) (ar_N wd) (ar_N fa) (ar_N ww) gs (ar_O so) xcd xws (ar_N rg) (ar_N ce) (ar_O nm) xon xgu (ar_N xdn) (ar_N xsn) (ar_N xpr) (ar_N xcl) xtr (ar_N ct) xlf xrt xlv (f + 1) (nI k) := by
    intro post J2 f k hp
    rw [wX_fault_26]
    by_cases c : e = 1 ∨ e = 3
    · have e1 : re_on e = 1 := if_pos c
      have e2 : re_bn nd e = nd := if_pos c
      rw [e1, e2] at hp
      rw [e1]
      exact br_f (by decide) hp
    · have e1 : re_on e = 0 := if_neg c
      have e2 : re_bn nd e = 7 := if_neg c
      rw [e1, e2] at hp
      rw [e1]
      exact br_t rfl hp
  have hY : ∀ (poss : Int32 → SY → Prop) (J15 : Int32 → Prop) (f k : Nat), wY_build_53 poss J15 (wY_build_39 poss J15 (nI e) (nI (re_on e)) (nI st) (nI nd) (nI bu) yad (nI wk) (nI nx) (nI kc1) (nI kc0) (nI kc2) (nI kc3) (nI kc4) (nI kc5) (nI kc6) (nI kc7) yts (nI gi) yga (ar_N ww) (ar_N rg) (ar_N ce) gs (ar_N kd) (ar_N fa) ybs ycs (ar_N sg) ywd (ar_O so) ycd yws (ar_N nb) (ar_N sy) (ar_N vl) (ar_N pv) (ar_N pc) ygu (ar_N gv) (ar_N dn) (ar_N wo) (ar_N pp) (ar_N yo) (ar_N wh) (ar_N wt) (ar_N wi) (ar_N tr) (ar_N tg) yone ytwo ylv f) (nI e) (nI (re_on e)) (nI k) (nI (re_bn nd e)) (nI k) (nI st) (nI nd) (nI bu) yad (nI wk) (nI nx) (nI kc1) (nI kc0) (nI kc2) (nI kc3) (nI kc4) (nI kc5) (nI kc6) (nI kc7) yts (nI gi) yga (ar_N ww) (ar_N rg) (ar_N ce) gs (ar_N kd) (ar_N fa) ybs ycs (ar_N sg) ywd (ar_O so) ycd yws (ar_N nb) (ar_N sy) (ar_N vl) (ar_N pv) (ar_N pc) ygu (ar_N gv) (ar_N dn) (ar_N wo) (ar_N pp) (ar_N yo) (ar_N wh) (ar_N wt) (ar_N wi) (ar_N tr) (ar_N tg) yone ytwo ylv → wY_build_39 poss J15 (nI e) (nI (re_on e)) (nI st) (nI nd) (nI bu) yad (nI wk) (nI nx) (nI kc1) (nI kc0) (nI kc2) (nI kc3) (nI kc4) (nI kc5) (nI kc6) (nI kc7) yts (nI gi) yga (ar_N ww) (ar_N rg) (ar_N ce) gs (ar_N kd) (ar_N fa) ybs ycs (ar_N sg) ywd (ar_O so) ycd yws (ar_N nb) (ar_N sy) (ar_N vl) (ar_N pv) (ar_N pc) ygu (ar_N gv) (ar_N dn) (ar_N wo) (ar_N pp) (ar_N yo) (ar_N wh) (ar_N wt) (ar_N wi) (ar_N tr) (ar_N tg) yone ytwo ylv (f + 1) (nI k) := by
    intro poss J15 f k hp
    rw [wY_build_39]
    by_cases c : e = 1 ∨ e = 3
    · have e1 : re_on e = 1 := if_pos c
      have e2 : re_bn nd e = nd := if_pos c
      rw [e1, e2] at hp
      rw [e1]
      exact br_f (by decide) hp
    · have e1 : re_on e = 0 := if_neg c
      have e2 : re_bn nd e = 7 := if_neg c
      rw [e1, e2] at hp
      rw [e1]
      exact br_t rfl hp
  intro d
  induction d with
  | zero =>
    intro k hk
    refine Or.inr ⟨fun i h1 h2 => absurd h2 (by omega), fun post J2 hp => hX _ _ _ _ ?_, fun poss J15 hp => hY _ _ _ _ ?_⟩
    · unfold wX_fault_40
      refine br_t (nI_le (by omega) (by omega)) (fun w ew => ?_)
      rw [ew, nI_1]; exact hp
    · unfold wY_build_53
      refine br_t (nI_le (by omega) (by omega)) (fun w ew => ?_)
      rw [ew, nI_1]; exact hp
  | succ d ih =>
    intro k hk
    -- what is asked of one
    have oneX : ∀ (post J2 : Int32 → Prop) (f : Nat), (re_wr st nd kd fa sb tc sg wd ww so cd ws ad gs e k → post (nI (100 * e + k))) → (¬ re_wr st nd kd fa sb tc sg wd ww so cd ws ad gs e k → wX_fault_26 post J2 (nI e) (nI (re_on e)) (nI st) (nI nd) (nI bu) xad (nI nx) xga xto (ar_N kd) (ar_N sb) (ar_N tc) (ar_N sg) (ar_N wd) (ar_N fa) (ar_N ww) gs (ar_O so) xcd xws (ar_N rg) (ar_N ce) (ar_O nm) xon xgu (ar_N xdn) (ar_N xsn) (ar_N xpr) (ar_N xcl) xtr (ar_N ct) xlf xrt xlv f (nI (k + 1))) → wX_fault_26 post J2 (nI e) (nI (re_on e)) (nI st) (nI nd) (nI bu) xad (nI nx) xga xto (ar_N kd) (ar_N sb) (ar_N tc) (ar_N sg) (ar_N wd) (ar_N fa) (ar_N ww) gs (ar_O so) xcd xws (ar_N rg) (ar_N ce) (ar_O nm) xon xgu (ar_N xdn) (ar_N xsn) (ar_N xpr) (ar_N xcl) xtr (ar_N ct) xlf xrt xlv (f + 1) (nI k) := by
      intro post J2 f h1 h0
      refine hX _ _ _ _ ?_
      have y1 : re_wr st nd kd fa sb tc sg wd ww so cd ws ad gs e k → wX_fault_62 post J2 (wX_fault_26 post J2 (nI e) (nI (re_on e)) (nI st) (nI nd) (nI bu) xad (nI nx) xga xto (ar_N kd) (ar_N sb) (ar_N tc) (ar_N sg) (ar_N wd) (ar_N fa) (ar_N ww) gs (ar_O so) xcd xws (ar_N rg) (ar_N ce) (ar_O nm) xon xgu (ar_N xdn) (ar_N xsn) (ar_N xpr) (ar_N xcl) xtr (ar_N ct) xlf xrt xlv f) (nI e) (nI (re_on e)) (nI k) 1 (nI st) (nI nd) (nI bu) xad (nI nx) xga xto (ar_N kd) (ar_N sb) (ar_N tc) (ar_N sg) (ar_N wd) (ar_N fa) (ar_N ww) gs (ar_O so) xcd xws (ar_N rg) (ar_N ce) (ar_O nm) xon xgu (ar_N xdn) (ar_N xsn) (ar_N xpr) (ar_N xcl) xtr (ar_N ct) xlf xrt xlv := by
        intro q
        unfold wX_fault_62
        refine br_f (by decide) ?_
        rw [show (100 : Int32) * nI e + nI k = nI (100 * e + k) by rw [show (100 : Int32) = nI 100 from rfl, ar_mul, ar_add]]
        exact h1 q
      have y0 : ¬ re_wr st nd kd fa sb tc sg wd ww so cd ws ad gs e k → wX_fault_62 post J2 (wX_fault_26 post J2 (nI e) (nI (re_on e)) (nI st) (nI nd) (nI bu) xad (nI nx) xga xto (ar_N kd) (ar_N sb) (ar_N tc) (ar_N sg) (ar_N wd) (ar_N fa) (ar_N ww) gs (ar_O so) xcd xws (ar_N rg) (ar_N ce) (ar_O nm) xon xgu (ar_N xdn) (ar_N xsn) (ar_N xpr) (ar_N xcl) xtr (ar_N ct) xlf xrt xlv f) (nI e) (nI (re_on e)) (nI k) 0 (nI st) (nI nd) (nI bu) xad (nI nx) xga xto (ar_N kd) (ar_N sb) (ar_N tc) (ar_N sg) (ar_N wd) (ar_N fa) (ar_N ww) gs (ar_O so) xcd xws (ar_N rg) (ar_N ce) (ar_O nm) xon xgu (ar_N xdn) (ar_N xsn) (ar_N xpr) (ar_N xcl) xtr (ar_N ct) xlf xrt xlv := by
        intro q
        unfold wX_fault_62
        refine br_t rfl (fun w ew => ?_)
        rw [ew, nI_1]; exact h0 q
      unfold wX_fault_40
      refine br_f (nI_ge (by omega) (by omega)) ?_
      by_cases c : e = 1 ∨ e = 3
      · refine br_f (by unfold re_on; rw [if_pos c]; decide) ?_
        have hb : re_bn nd e = nd := if_pos c
        exact xq_isNodeWrong hM c (by omega) y1 y0
      · refine br_t (by unfold re_on; rw [if_neg c]; rfl) ?_
        have hb : re_bn nd e = 7 := if_neg c
        exact xq_isWrong hM (by omega) (by omega) y1 y0
    have oneY : ∀ (poss : Int32 → SY → Prop) (J15 : Int32 → Prop) (f : Nat), (re_wr st nd kd fa sb tc sg wd ww so cd ws ad gs e k → poss (nI (100 * e + k)) (nI st, nI nd, nI bu, yad, nI wk, nI nx, nI kc1, nI kc0, nI kc2, nI kc3, nI kc4, nI kc5, nI kc6, nI kc7, yts, nI gi, yga, ar_N ww, ar_N rg, ar_N ce, gs, ar_N kd, ar_N fa, ybs, ycs, ar_N sg, ywd, ar_O so, ycd, yws, ar_N nb, ar_N sy, ar_N vl, ar_N pv, ar_N pc, ygu, ar_N gv, ar_N dn, ar_N wo, ar_N pp, ar_N yo, ar_N wh, ar_N wt, ar_N wi, ar_N tr, ar_N tg, yone, ytwo, ylv)) → (¬ re_wr st nd kd fa sb tc sg wd ww so cd ws ad gs e k → wY_build_39 poss J15 (nI e) (nI (re_on e)) (nI st) (nI nd) (nI bu) yad (nI wk) (nI nx) (nI kc1) (nI kc0) (nI kc2) (nI kc3) (nI kc4) (nI kc5) (nI kc6) (nI kc7) yts (nI gi) yga (ar_N ww) (ar_N rg) (ar_N ce) gs (ar_N kd) (ar_N fa) ybs ycs (ar_N sg) ywd (ar_O so) ycd yws (ar_N nb) (ar_N sy) (ar_N vl) (ar_N pv) (ar_N pc) ygu (ar_N gv) (ar_N dn) (ar_N wo) (ar_N pp) (ar_N yo) (ar_N wh) (ar_N wt) (ar_N wi) (ar_N tr) (ar_N tg) yone ytwo ylv f (nI (k + 1))) → wY_build_39 poss J15 (nI e) (nI (re_on e)) (nI st) (nI nd) (nI bu) yad (nI wk) (nI nx) (nI kc1) (nI kc0) (nI kc2) (nI kc3) (nI kc4) (nI kc5) (nI kc6) (nI kc7) yts (nI gi) yga (ar_N ww) (ar_N rg) (ar_N ce) gs (ar_N kd) (ar_N fa) ybs ycs (ar_N sg) ywd (ar_O so) ycd yws (ar_N nb) (ar_N sy) (ar_N vl) (ar_N pv) (ar_N pc) ygu (ar_N gv) (ar_N dn) (ar_N wo) (ar_N pp) (ar_N yo) (ar_N wh) (ar_N wt) (ar_N wi) (ar_N tr) (ar_N tg) yone ytwo ylv (f + 1) (nI k) := by
      intro poss J15 f h1 h0
      refine hY _ _ _ _ ?_
      have y1 : re_wr st nd kd fa sb tc sg wd ww so cd ws ad gs e k → wY_build_101 poss J15 (wY_build_39 poss J15 (nI e) (nI (re_on e)) (nI st) (nI nd) (nI bu) yad (nI wk) (nI nx) (nI kc1) (nI kc0) (nI kc2) (nI kc3) (nI kc4) (nI kc5) (nI kc6) (nI kc7) yts (nI gi) yga (ar_N ww) (ar_N rg) (ar_N ce) gs (ar_N kd) (ar_N fa) ybs ycs (ar_N sg) ywd (ar_O so) ycd yws (ar_N nb) (ar_N sy) (ar_N vl) (ar_N pv) (ar_N pc) ygu (ar_N gv) (ar_N dn) (ar_N wo) (ar_N pp) (ar_N yo) (ar_N wh) (ar_N wt) (ar_N wi) (ar_N tr) (ar_N tg) yone ytwo ylv f) (nI e) (nI (re_on e)) (nI k) 1 (nI st) (nI nd) (nI bu) yad (nI wk) (nI nx) (nI kc1) (nI kc0) (nI kc2) (nI kc3) (nI kc4) (nI kc5) (nI kc6) (nI kc7) yts (nI gi) yga (ar_N ww) (ar_N rg) (ar_N ce) gs (ar_N kd) (ar_N fa) ybs ycs (ar_N sg) ywd (ar_O so) ycd yws (ar_N nb) (ar_N sy) (ar_N vl) (ar_N pv) (ar_N pc) ygu (ar_N gv) (ar_N dn) (ar_N wo) (ar_N pp) (ar_N yo) (ar_N wh) (ar_N wt) (ar_N wi) (ar_N tr) (ar_N tg) yone ytwo ylv := by
        intro q
        unfold wY_build_101
        refine br_f (by decide) ?_
        rw [show (100 : Int32) * nI e + nI k = nI (100 * e + k) by rw [show (100 : Int32) = nI 100 from rfl, ar_mul, ar_add]]
        exact h1 q
      have y0 : ¬ re_wr st nd kd fa sb tc sg wd ww so cd ws ad gs e k → wY_build_101 poss J15 (wY_build_39 poss J15 (nI e) (nI (re_on e)) (nI st) (nI nd) (nI bu) yad (nI wk) (nI nx) (nI kc1) (nI kc0) (nI kc2) (nI kc3) (nI kc4) (nI kc5) (nI kc6) (nI kc7) yts (nI gi) yga (ar_N ww) (ar_N rg) (ar_N ce) gs (ar_N kd) (ar_N fa) ybs ycs (ar_N sg) ywd (ar_O so) ycd yws (ar_N nb) (ar_N sy) (ar_N vl) (ar_N pv) (ar_N pc) ygu (ar_N gv) (ar_N dn) (ar_N wo) (ar_N pp) (ar_N yo) (ar_N wh) (ar_N wt) (ar_N wi) (ar_N tr) (ar_N tg) yone ytwo ylv f) (nI e) (nI (re_on e)) (nI k) 0 (nI st) (nI nd) (nI bu) yad (nI wk) (nI nx) (nI kc1) (nI kc0) (nI kc2) (nI kc3) (nI kc4) (nI kc5) (nI kc6) (nI kc7) yts (nI gi) yga (ar_N ww) (ar_N rg) (ar_N ce) gs (ar_N kd) (ar_N fa) ybs ycs (ar_N sg) ywd (ar_O so) ycd yws (ar_N nb) (ar_N sy) (ar_N vl) (ar_N pv) (ar_N pc) ygu (ar_N gv) (ar_N dn) (ar_N wo) (ar_N pp) (ar_N yo) (ar_N wh) (ar_N wt) (ar_N wi) (ar_N tr) (ar_N tg) yone ytwo ylv := by
        intro q
        unfold wY_build_101
        refine br_t rfl (fun w ew => ?_)
        rw [ew, nI_1]; exact h0 q
      unfold wY_build_53
      refine br_f (nI_ge (by omega) (by omega)) ?_
      refine pk_eq e 1 (fun e1 => ?_) (fun e1 => ?_)
      · have hb : re_bn nd e = nd := if_pos (Or.inl e1)
        have s2 := (hM.2.1 k (by omega)).2.2.2.2.2.2.2.1
        refine ⟨vp_in_nI (by omega) (by omega), ?_⟩
        rw [nI_clamp (by omega), ar_Nap]
        refine pk_lt (sg k) st (fun q => y0 ?_) (fun q => y1 (Or.inl ⟨e1, q⟩))
        unfold re_wr
        rintro (c | c | c | c | c | c) <;> omega
      refine pk_eq e 3 (fun e3 => ?_) (fun e3 => ?_)
      · have hb : re_bn nd e = nd := if_pos (Or.inr e3)
        refine ⟨re_op (kd k) + 1, yq_early hM (by omega) (re_op (kd k)) 0 (by omega) (fun ⟨i, _, q2, q3⟩ => y1 (Or.inr (Or.inr (Or.inl ⟨e3, i, q2, q3⟩)))) (fun q => y0 ?_)⟩
        unfold re_wr
        rintro (c | c | c | c | c | c)
        · omega
        · omega
        · obtain ⟨-, i, q2, q3⟩ := c
          exact q ⟨i, Nat.zero_le _, q2, q3⟩
        · omega
        · omega
        · omega
      · have hb : re_bn nd e = 7 := if_neg (by omega)
        exact yq_isWrong hM hwd (by omega) (by omega) y1 y0
    by_cases w : re_wr st nd kd fa sb tc sg wd ww so cd ws ad gs e k
    · exact Or.inl ⟨100 * e + k, by omega, by omega, fun post J2 hp => oneX _ _ _ (fun _ => hp) (fun q => absurd w q), fun poss J15 hp => oneY _ _ _ (fun _ => hp) (fun q => absurd w q)⟩
    · rcases ih (k + 1) (by omega) with ⟨r, r1, r2, r3, r4⟩ | ⟨r1, r2, r3⟩
      · exact Or.inl ⟨r, r1, r2, fun post J2 hp => oneX _ _ _ (fun q => absurd q w) (fun _ => r3 _ _ hp), fun poss J15 hp => oneY _ _ _ (fun q => absurd q w) (fun _ => r4 _ _ hp)⟩
      · refine Or.inr ⟨fun i h1 h2 => ?_, fun post J2 hp => oneX _ _ _ (fun q => absurd q w) (fun _ => r2 _ _ hp), fun poss J15 hp => oneY _ _ _ (fun q => absurd q w) (fun _ => r3 _ _ hp)⟩
        by_cases c : i = k
        · subst c; exact w
        · exact r1 i (by omega) h2
theorem pr_fault (hM : re_M st nd kd fa sb tc sg wd ww so cd ws ad gs xcd xws ycd yws ybs ycs xad yad) (hwd : ∀ n, n < nd → ywd n = nI (wd n)) : ∀ d e, e + d = 7 → 1 ≤ e →
    (∃ r : Nat, r ≠ 0 ∧ r < 1000 ∧ (∀ (post : Int32 → Prop), post (nI r) → wX_fault_2 post (nI st) (nI nd) (nI bu) xad (nI nx) xga xto (ar_N kd) (ar_N sb) (ar_N tc) (ar_N sg) (ar_N wd) (ar_N fa) (ar_N ww) gs (ar_O so) xcd xws (ar_N rg) (ar_N ce) (ar_O nm) xon xgu (ar_N xdn) (ar_N xsn) (ar_N xpr) (ar_N xcl) xtr (ar_N ct) xlf xrt xlv (d + 1) (nI e)) ∧ (∀ (poss : Int32 → SY → Prop), poss (nI r) (nI st, nI nd, nI bu, yad, nI wk, nI nx, nI kc1, nI kc0, nI kc2, nI kc3, nI kc4, nI kc5, nI kc6, nI kc7, yts, nI gi, yga, ar_N ww, ar_N rg, ar_N ce, gs, ar_N kd, ar_N fa, ybs, ycs, ar_N sg, ywd, ar_O so, ycd, yws, ar_N nb, ar_N sy, ar_N vl, ar_N pv, ar_N pc, ygu, ar_N gv, ar_N dn, ar_N wo, ar_N pp, ar_N yo, ar_N wh, ar_N wt, ar_N wi, ar_N tr, ar_N tg, yone, ytwo, ylv) → wY_build_15 poss (nI st) (nI nd) (nI bu) yad (nI wk) (nI nx) (nI kc1) (nI kc0) (nI kc2) (nI kc3) (nI kc4) (nI kc5) (nI kc6) (nI kc7) yts (nI gi) yga (ar_N ww) (ar_N rg) (ar_N ce) gs (ar_N kd) (ar_N fa) ybs ycs (ar_N sg) ywd (ar_O so) ycd yws (ar_N nb) (ar_N sy) (ar_N vl) (ar_N pv) (ar_N pc) ygu (ar_N gv) (ar_N dn) (ar_N wo) (ar_N pp) (ar_N yo) (ar_N wh) (ar_N wt) (ar_N wi) (ar_N tr) (ar_N tg) yone ytwo ylv (d + 1) (nI e))) ∨
    ((∀ e', e ≤ e' → e' < 7 → ∀ i, i < re_bn nd e' → ¬ re_wr st nd kd fa sb tc sg wd ww so cd ws ad gs e' i) ∧ (∀ (post : Int32 → Prop), post 0 → wX_fault_2 post (nI st) (nI nd) (nI bu) xad (nI nx) xga xto (ar_N kd) (ar_N sb) (ar_N tc) (ar_N sg) (ar_N wd) (ar_N fa) (ar_N ww) gs (ar_O so) xcd xws (ar_N rg) (ar_N ce) (ar_O nm) xon xgu (ar_N xdn) (ar_N xsn) (ar_N xpr) (ar_N xcl) xtr (ar_N ct) xlf xrt xlv (d + 1) (nI e)) ∧ (∀ (poss : Int32 → SY → Prop), poss 0 (nI st, nI nd, nI 1, yad, nI wk, nI nx, nI kc1, nI kc0, nI kc2, nI kc3, nI kc4, nI kc5, nI kc6, nI kc7, yts, nI gi, yga, ar_N ww, ar_N rg, ar_N ce, gs, ar_N kd, ar_N fa, ybs, ycs, ar_N sg, ywd, ar_O so, ycd, yws, ar_N nb, ar_N sy, ar_N vl, ar_N pv, ar_N pc, ygu, ar_N gv, ar_N dn, ar_N wo, ar_N pp, ar_N yo, ar_N wh, ar_N wt, ar_N wi, ar_N tr, ar_N tg, yone, ytwo, ylv) → wY_build_15 poss (nI st) (nI nd) (nI bu) yad (nI wk) (nI nx) (nI kc1) (nI kc0) (nI kc2) (nI kc3) (nI kc4) (nI kc5) (nI kc6) (nI kc7) yts (nI gi) yga (ar_N ww) (ar_N rg) (ar_N ce) gs (ar_N kd) (ar_N fa) ybs ycs (ar_N sg) ywd (ar_O so) ycd yws (ar_N nb) (ar_N sy) (ar_N vl) (ar_N pv) (ar_N pc) ygu (ar_N gv) (ar_N dn) (ar_N wo) (ar_N pp) (ar_N yo) (ar_N wh) (ar_N wt) (ar_N wi) (ar_N tr) (ar_N tg) yone ytwo ylv (d + 1) (nI e))) := by
  intro d
  induction d with
  | zero =>
    intro e he h1
    have e7 : e = 7 := by omega
    subst e7
    refine Or.inr ⟨fun e' q1 q2 => absurd q2 (by omega), fun post hp => ?_, fun poss hp => ?_⟩
    · rw [wX_fault_2]; exact br_t (by decide) hp
    · rw [wY_build_15]; exact br_t (by decide) hp
  | succ d ih =>
    intro e he h1
    have hX : ∀ (post : Int32 → Prop) (f : Nat), (∃ g, wX_fault_26 post (wX_fault_2 post (nI st) (nI nd) (nI bu) xad (nI nx) xga xto (ar_N kd) (ar_N sb) (ar_N tc) (ar_N sg) (ar_N wd) (ar_N fa) (ar_N ww) gs (ar_O so) xcd xws (ar_N rg) (ar_N ce) (ar_O nm) xon xgu (ar_N xdn) (ar_N xsn) (ar_N xpr) (ar_N xcl) xtr (ar_N ct) xlf xrt xlv f) (nI e) (nI (re_on e)) (nI st) (nI nd) (nI bu) xad (nI nx) xga xto (ar_N kd) (ar_N sb) (ar_N tc) (ar_N sg) (ar_N wd) (ar_N fa) (ar_N ww) gs (ar_O so) xcd xws (ar_N rg) (ar_N ce) (ar_O nm) xon xgu (ar_N xdn) (ar_N xsn) (ar_N xpr) (ar_N xcl) xtr (ar_N ct) xlf xrt xlv g 0) → wX_fault_2 post (nI st) (nI nd) (nI bu) xad (nI nx) xga xto (ar_N kd) (ar_N sb) (ar_N tc) (ar_N sg) (ar_N wd) (ar_N fa) (ar_N ww) gs (ar_O so) xcd xws (ar_N rg) (ar_N ce) (ar_O nm) xon xgu (ar_N xdn) (ar_N xsn) (ar_N xpr) (ar_N xcl) xtr (ar_N ct) xlf xrt xlv (f + 1) (nI e) := by
      intro post f hp
      rw [wX_fault_2]
      refine br_f (nI_ge (b := 7) (by omega) (by omega)) ?_
      refine pk_eq e 1 (fun c => ?_) (fun c => pk_eq e 3 (fun c2 => ?_) (fun c2 => ?_))
      · rw [show re_on e = 1 from if_pos (Or.inl c)] at hp; exact hp
      · rw [show re_on e = 1 from if_pos (Or.inr c2)] at hp; exact hp
      · rw [show re_on e = 0 from if_neg (by omega)] at hp; exact hp
    have hY : ∀ (poss : Int32 → SY → Prop) (f : Nat), (∃ g, wY_build_39 poss (wY_build_15 poss (nI st) (nI nd) (nI bu) yad (nI wk) (nI nx) (nI kc1) (nI kc0) (nI kc2) (nI kc3) (nI kc4) (nI kc5) (nI kc6) (nI kc7) yts (nI gi) yga (ar_N ww) (ar_N rg) (ar_N ce) gs (ar_N kd) (ar_N fa) ybs ycs (ar_N sg) ywd (ar_O so) ycd yws (ar_N nb) (ar_N sy) (ar_N vl) (ar_N pv) (ar_N pc) ygu (ar_N gv) (ar_N dn) (ar_N wo) (ar_N pp) (ar_N yo) (ar_N wh) (ar_N wt) (ar_N wi) (ar_N tr) (ar_N tg) yone ytwo ylv f) (nI e) (nI (re_on e)) (nI st) (nI nd) (nI bu) yad (nI wk) (nI nx) (nI kc1) (nI kc0) (nI kc2) (nI kc3) (nI kc4) (nI kc5) (nI kc6) (nI kc7) yts (nI gi) yga (ar_N ww) (ar_N rg) (ar_N ce) gs (ar_N kd) (ar_N fa) ybs ycs (ar_N sg) ywd (ar_O so) ycd yws (ar_N nb) (ar_N sy) (ar_N vl) (ar_N pv) (ar_N pc) ygu (ar_N gv) (ar_N dn) (ar_N wo) (ar_N pp) (ar_N yo) (ar_N wh) (ar_N wt) (ar_N wi) (ar_N tr) (ar_N tg) yone ytwo ylv g 0) → wY_build_15 poss (nI st) (nI nd) (nI bu) yad (nI wk) (nI nx) (nI kc1) (nI kc0) (nI kc2) (nI kc3) (nI kc4) (nI kc5) (nI kc6) (nI kc7) yts (nI gi) yga (ar_N ww) (ar_N rg) (ar_N ce) gs (ar_N kd) (ar_N fa) ybs ycs (ar_N sg) ywd (ar_O so) ycd yws (ar_N nb) (ar_N sy) (ar_N vl) (ar_N pv) (ar_N pc) ygu (ar_N gv) (ar_N dn) (ar_N wo) (ar_N pp) (ar_N yo) (ar_N wh) (ar_N wt) (ar_N wi) (ar_N tr) (ar_N tg) yone ytwo ylv (f + 1) (nI e) := by
      intro poss f hp
      rw [wY_build_15]
      refine br_f (nI_ge (b := 7) (by omega) (by omega)) ?_
      refine pk_eq e 1 (fun c => ?_) (fun c => pk_eq e 3 (fun c2 => ?_) (fun c2 => ?_))
      · rw [show re_on e = 1 from if_pos (Or.inl c)] at hp; exact hp
      · rw [show re_on e = 1 from if_pos (Or.inr c2)] at hp; exact hp
      · rw [show re_on e = 0 from if_neg (by omega)] at hp; exact hp
    rcases pr_finner (e := e) hM hwd h1 (by omega) (re_bn nd e) 0 (by omega) with ⟨r, r1, r2, r3, r4⟩ | ⟨r1, r2, r3⟩
    · exact Or.inl ⟨r, r1, r2, fun post hp => hX _ _ ⟨_, r3 _ _ hp⟩, fun poss hp => hY _ _ ⟨_, r4 _ _ hp⟩⟩
    · rcases ih (e + 1) (by omega) (by omega) with ⟨r, i1, i2, i3, i4⟩ | ⟨i1, i2, i3⟩
      · exact Or.inl ⟨r, i1, i2, fun post hp => hX _ _ ⟨_, r2 _ _ (i3 _ hp)⟩, fun poss hp => hY _ _ ⟨_, r3 _ _ (i4 _ hp)⟩⟩
      · refine Or.inr ⟨fun e' q1 q2 i q3 => ?_, fun post hp => hX _ _ ⟨_, r2 _ _ (i2 _ hp)⟩, fun poss hp => hY _ _ ⟨_, r3 _ _ (i3 _ hp)⟩⟩
        by_cases c : e' = e
        · subst c; exact r1 i (Nat.zero_le _) q3
        · exact i1 e' (by omega) q2 i q3
theorem re_ff (hM : re_M st nd kd fa sb tc sg wd ww so cd ws ad gs xcd xws ycd yws ybs ycs xad yad) (h : ∀ e', 1 ≤ e' → e' < 7 → ∀ i, i < re_bn nd e' → ¬ re_wr st nd kd fa sb tc sg wd ww so cd ws ad gs e' i) : re_F st nd kd fa sb tc sg wd ww so cd ws ad gs := by
  have hst := hM.1
  refine ⟨fun n hn => ?_, fun t ht hso => ?_, fun r hr hg => ?_⟩
  · have q1 := h 1 (by omega) (by omega) n (by rw [show re_bn nd 1 = nd from rfl]; exact hn)
    have q3 := h 3 (by omega) (by omega) n (by rw [show re_bn nd 3 = nd from rfl]; exact hn)
    have hk := (hM.2.1 n hn).1
    obtain ⟨o1, o2, o3, o4⟩ := re_opv (kk := kd n) (by omega)
    have op : ∀ j, j < re_op (kd n) → sg (re_nm fa sb tc n j) ≤ sg n := by
      intro j hj
      rcases Nat.lt_or_ge (sg n) (sg (re_nm fa sb tc n j)) with c | c
      · exact absurd (Or.inr (Or.inr (Or.inl ⟨rfl, j, hj, c⟩))) q3
      · exact c
    refine ⟨?_, fun k2 => op 0 ?_, fun k3 => op 1 ?_, fun k9 => op 2 ?_⟩
    · rcases Nat.lt_or_ge (sg n) st with c | c
      · exact c
      · exact absurd (Or.inl ⟨rfl, c⟩) q1
    · have : ¬ re_op (kd n) ≤ 0 := fun q => by have := o3.mp q; omega
      omega
    · have : ¬ re_op (kd n) ≤ 1 := fun q => by have := o1.mp q; omega
      omega
    · have : ¬ re_op (kd n) ≤ 2 := fun q => o2.mp q k9
      omega
  · have q2 := h 2 (by omega) (by omega) t (by rw [show re_bn nd 2 = 7 from rfl]; exact ht)
    have q4 := h 4 (by omega) (by omega) t (by rw [show re_bn nd 4 = 7 from rfl]; exact ht)
    have q5 := h 5 (by omega) (by omega) t (by rw [show re_bn nd 5 = 7 from rfl]; exact ht)
    refine ⟨?_, ?_, fun c => ?_, fun c => ?_, ?_⟩
    · rcases Nat.lt_or_ge (ws t) st with c | c
      · exact c
      · exact absurd (Or.inr (Or.inl ⟨rfl, hso, c⟩)) q2
    · rcases Nat.lt_or_ge (ws t) (sg (so t - 1)) with d | d
      · exact absurd (Or.inr (Or.inr (Or.inr (Or.inl ⟨rfl, hso, Or.inl d⟩)))) q4
      · exact d
    · rcases Nat.lt_or_ge (ws t) (sg (cd t - 1)) with d | d
      · exact absurd (Or.inr (Or.inr (Or.inr (Or.inl ⟨rfl, hso, Or.inr (Or.inl ⟨c, d⟩)⟩)))) q4
      · exact d
    · rcases Nat.lt_or_ge (ws t) (sg ad) with d | d
      · exact absurd (Or.inr (Or.inr (Or.inr (Or.inl ⟨rfl, hso, Or.inr (Or.inr ⟨c, d⟩)⟩)))) q4
      · exact d
    · rcases Nat.lt_or_ge (if t = 6 then 8 else ww t) (wd (so t - 1)) with d | d
      · exact absurd (Or.inr (Or.inr (Or.inr (Or.inr (Or.inl ⟨rfl, hso, d⟩))))) q5
      · exact d
  · have q6 := h 6 (by omega) (by omega) r (by rw [show re_bn nd 6 = 7 from rfl]; omega)
    by_cases c : so r ≠ 0 ∧ (∃ n, n < nd ∧ kd n = 1 ∧ fa n = r) ∧ ∀ n, n < nd → kd n = 1 → fa n = r → sg n = 0
    · exact c
    · exact absurd (Or.inr (Or.inr (Or.inr (Or.inr (Or.inr ⟨rfl, hr, hg, c⟩))))) q6
end
theorem i_vc_build {k : Nat} {u : SX} {v : SY} (I : i_Rel k u v) (hk : k + 6 ≤ 3072) : wpX_build (fun r u' => wpY_build (fun r' v' => r' = r ∧ i_Rel (k + 6) u' v') v) u := by
  refine re_el (P := fun u v => wpX_build (fun r u' => wpY_build (fun r' v' => r' = r ∧ i_Rel (k + 6) u' v') v) u) ?_ I
  intro st nd bu nx wk gi ad xad xga xto yad yts yga kd sb tc sg wd fa ww so rg ce nm xdn xsn xpr xcl ct nb sy vl pv pc gv dn wo pp yo wh wt wi tr tg cd ws gs xcd xws xon xgu xlf xrt xlv ybs ycs ywd ycd yws ygu yone ytwo ylv xtr hR
  have J := re_in (re_up (show k ≤ k + 6 by omega) hR)
  obtain ⟨hM, hB, hO, hV, hQ, hP, hC, hL, hk20⟩ := hR
  unfold wpX_build wpY_build
  dsimp only
  rcases hB with ⟨b0, w0⟩ | ⟨b1, hF, hwd⟩
  · have eb : nI bu = 0 := by rw [b0]; rfl
    obtain ⟨ywd', m1, m2⟩ := yq_measure (bu := bu) (wk := wk) (nx := nx) (kc0 := ct 0) (kc1 := ct 1) (kc2 := ct 2) (kc3 := ct 3) (kc4 := ct 4) (kc5 := ct 5) (kc6 := ct 6) (kc7 := ct 7) (yts := yts) (gi := gi) (yga := yga) (rg := rg) (ce := ce) (ywd := ywd) (nb := nb) (sy := sy) (vl := vl) (pv := pv) (pc := pc) (ygu := ygu) (gv := gv) (dn := dn) (wo := wo) (pp := pp) (yo := yo) (wh := wh) (wt := wt) (wi := wi) (tr := tr) (tg := tg) (yone := yone) (ytwo := ytwo) (ylv := ylv) hM
    rcases pr_fault (ywd := ywd') (bu := bu) (wk := wk) (nx := nx) (kc0 := ct 0) (kc1 := ct 1) (kc2 := ct 2) (kc3 := ct 3) (kc4 := ct 4) (kc5 := ct 5) (kc6 := ct 6) (kc7 := ct 7) (yts := yts) (gi := gi) (yga := yga) (rg := rg) (ce := ce) (nb := nb) (sy := sy) (vl := vl) (pv := pv) (pc := pc) (ygu := ygu) (gv := gv) (dn := dn) (wo := wo) (pp := pp) (yo := yo) (wh := wh) (wt := wt) (wi := wi) (tr := tr) (tg := tg) (yone := yone) (ytwo := ytwo) (ylv := ylv) (xga := xga) (xto := xto) (nm := nm) (xon := xon) (xgu := xgu) (xdn := xdn) (xsn := xsn) (xpr := xpr) (xcl := xcl) (xtr := xtr) (ct := ct) (xlf := xlf) (xrt := xrt) (xlv := xlv) hM m1 6 1 (by omega) (by omega) with ⟨r, r1, r2, r3, r4⟩ | ⟨r1, r2, r3⟩
    · refine br_t eb ⟨7, r3 _ ?_⟩
      unfold wX_build_15
      refine br_f (nI_ne0 (by omega) (by omega)) ?_
      refine br_t eb (m2 _ ⟨7, r4 _ ⟨rfl, ?_⟩⟩)
      rw [← eb]
      exact re_in ⟨hM, Or.inl ⟨b0, w0⟩, hO, hV, hQ, hP, hC, hL, by omega⟩
    · refine br_t eb ⟨7, r2 _ ?_⟩
      unfold wX_build_15
      refine br_t rfl ?_
      refine br_t eb (m2 _ ⟨7, r3 _ ⟨rfl, ?_⟩⟩)
      exact re_in (bu := 1) ⟨hM, Or.inr ⟨rfl, re_ff hM (fun e' _ h2 => r1 e' (by omega) h2), m1⟩, hO, hV, hQ, hP, hC, hL, by omega⟩
  · have eb : ¬ nI bu = 0 := by rw [b1]; decide
    refine br_f eb ?_
    unfold wX_build_15
    refine br_t rfl ?_
    refine br_f eb ⟨rfl, ?_⟩
    rw [b1] at J ⊢
    exact J
end
section
/-! what is carried behind a stage -/
def re_n1 (nd : Nat) (kd fa sb tc sg : Nat → Nat) (n s k : Nat) : Prop := ∃ i j, k ≤ i ∧ i < nd ∧ j < re_op (kd i) ∧ s < sg i ∧ re_nm fa sb tc i j = n
def re_n2 (so cd ws : Nat → Nat) (ad n s t : Nat) : Prop := ∃ i, t ≤ i ∧ i < 7 ∧ so i ≠ 0 ∧ s < ws i ∧ (so i = n + 1 ∨ cd i = n + 1 ∨ (i = 6 ∧ ad = n))
def re_nn (nd : Nat) (kd fa sb tc sg so cd ws : Nat → Nat) (ad n s : Nat) : Prop := re_n1 nd kd fa sb tc sg n s 0 ∨ re_n2 so cd ws ad n s 0
section
variable {st nd bu nx wk kc1 kc0 kc2 kc3 kc4 kc5 kc6 kc7 gi ad : Nat} {xad xga xto yad yts yga : Int32} {kd sb tc sg wd fa ww so rg ce nm xdn xsn xpr xcl ct nb sy vl pv pc gv dn wo pp yo wh wt wi tr tg cd ws : Nat → Nat} {gs xcd xws xon xgu xlf xrt xlv ybs ycs ywd ycd yws ygu yone ytwo ylv : Nat → Int32} {xtr : Nat → Int64}
variable {post : Int32 → Prop} {n s : Nat}
theorem xq_nd70 (hM : re_M st nd kd fa sb tc sg wd ww so cd ws ad gs xcd xws ycd yws ybs ycs xad yad) (hn : n < nd) (hs : s < 5) : ∀ d t, t + d = 7 → (re_n2 so cd ws ad n s t → post 1) → (¬ re_n2 so cd ws ad n s t → post 0) → wX_isNeeded_70 post (nI n) (nI s) (nI st) (nI nd) (nI bu) xad (nI nx) xga xto (ar_N kd) (ar_N sb) (ar_N tc) (ar_N sg) (ar_N wd) (ar_N fa) (ar_N ww) gs (ar_O so) xcd xws (ar_N rg) (ar_N ce) (ar_O nm) xon xgu (ar_N xdn) (ar_N xsn) (ar_N xpr) (ar_N xcl) xtr (ar_N ct) xlf xrt xlv (d + 1) (nI t) := by
  have hst := hM.1
  intro d
  induction d with
  | zero =>
    intro t ht h1 h0
    rw [wX_isNeeded_70]
    refine br_t (nI_lt (a := 6) (by omega) (by omega)) (h0 ?_)
    rintro ⟨i, q1, q2, -⟩
    omega
  | succ d ih =>
    intro t ht h1 h0
    have b7 := vp_in_nI (show t < 7 by omega) (show 7 < 2 ^ 31 by omega)
    obtain ⟨s1, s2⟩ := hM.2.2.2.1 t (by omega)
    have go : ¬ (so t ≠ 0 ∧ s < ws t ∧ (so t = n + 1 ∨ cd t = n + 1 ∨ (t = 6 ∧ ad = n))) → ∀ w : Int32, w = nI t + 1 → wX_isNeeded_70 post (nI n) (nI s) (nI st) (nI nd) (nI bu) xad (nI nx) xga xto (ar_N kd) (ar_N sb) (ar_N tc) (ar_N sg) (ar_N wd) (ar_N fa) (ar_N ww) gs (ar_O so) xcd xws (ar_N rg) (ar_N ce) (ar_O nm) xon xgu (ar_N xdn) (ar_N xsn) (ar_N xpr) (ar_N xcl) xtr (ar_N ct) xlf xrt xlv (d + 1) w := by
      intro q w ew
      rw [ew, nI_1]
      refine ih (t + 1) (by omega) (fun ⟨i, c1, c2⟩ => h1 ⟨i, by omega, c2⟩) (fun c => h0 (fun ⟨i, c1, c2, c3⟩ => ?_))
      by_cases e : i = t
      · subst e; exact q c3
      · exact c ⟨i, by omega, c2, c3⟩
    rw [wX_isNeeded_70]
    refine br_f (nI_nlt (a := 6) (by omega) (by omega)) ⟨b7, ?_⟩
    rw [nI_clamp (by omega), ar_Oap]
    by_cases z : so t = 0
    · exact br_t (by rw [z]; decide) (go (fun q => q.1 z))
    · obtain ⟨c1, c2, c3, w1, w2, w3⟩ := s2 z
      refine br_f (by rw [show (0 : Int32) = nI 0 from rfl, ar_ilt (by omega) (by omega)]; omega) ⟨b7, ?_⟩
      rw [w1, c1]
      refine pk_lt s (ws t) (fun q => ⟨b7, ?_⟩) (fun q => go (fun c => by omega))
      by_cases a : so t = n + 1
      · exact br_t (by rw [a]; rfl) (h1 ⟨t, Nat.le_refl _, by omega, z, q, Or.inl a⟩)
      refine br_f (by rw [ar_ien (by omega) (by omega)]; exact a) ⟨b7, ?_⟩
      by_cases b : cd t = n + 1
      · exact br_t (by rw [b]; rfl) (h1 ⟨t, Nat.le_refl _, by omega, z, q, Or.inr (Or.inl b)⟩)
      refine br_f (by rw [ar_ien (by omega) (by omega)]; exact b) ?_
      refine pk_eq t 6 (fun h6 => ?_) (fun h6 => go (fun c => ?_))
      · obtain ⟨a1, a2, a3⟩ := hM.2.2.2.2 (by rw [← h6]; exact z)
        refine pk_eq ad n (fun c => h1 ⟨t, Nat.le_refl _, by omega, z, q, Or.inr (Or.inr ⟨h6, c⟩)⟩) (fun c => go (fun e => ?_)) a1
        rcases e.2.2 with e | e | e
        · exact a e
        · exact b e
        · exact c e.2
      · rcases c.2.2 with e | e | e
        · exact a e
        · exact b e
        · exact h6 e.1
theorem yq_nd64 (hM : re_M st nd kd fa sb tc sg wd ww so cd ws ad gs xcd xws ycd yws ybs ycs xad yad) (hn : n < nd) (hs : s < 5) : ∀ d t, t + d = 7 → (re_n2 so cd ws ad n s t → post 1) → (¬ re_n2 so cd ws ad n s t → post 0) → wY_isNeeded_64 post (nI n) (nI s) (nI st) (nI nd) (nI bu) yad (nI wk) (nI nx) (nI kc1) (nI kc0) (nI kc2) (nI kc3) (nI kc4) (nI kc5) (nI kc6) (nI kc7) yts (nI gi) yga (ar_N ww) (ar_N rg) (ar_N ce) gs (ar_N kd) (ar_N fa) ybs ycs (ar_N sg) ywd (ar_O so) ycd yws (ar_N nb) (ar_N sy) (ar_N vl) (ar_N pv) (ar_N pc) ygu (ar_N gv) (ar_N dn) (ar_N wo) (ar_N pp) (ar_N yo) (ar_N wh) (ar_N wt) (ar_N wi) (ar_N tr) (ar_N tg) yone ytwo ylv (d + 1) (nI t) := by
  have hst := hM.1
  intro d
  induction d with
  | zero =>
    intro t ht h1 h0
    rw [wY_isNeeded_64]
    refine br_t (nI_le (a := 7) (by omega) (by omega)) (h0 ?_)
    rintro ⟨i, q1, q2, -⟩
    omega
  | succ d ih =>
    intro t ht h1 h0
    have b7 := vp_in_nI (show t < 7 by omega) (show 7 < 2 ^ 31 by omega)
    obtain ⟨s1, s2⟩ := hM.2.2.2.1 t (by omega)
    have go : ¬ (so t ≠ 0 ∧ s < ws t ∧ (so t = n + 1 ∨ cd t = n + 1 ∨ (t = 6 ∧ ad = n))) → ∀ w : Int32, w = nI t + 1 → wY_isNeeded_64 post (nI n) (nI s) (nI st) (nI nd) (nI bu) yad (nI wk) (nI nx) (nI kc1) (nI kc0) (nI kc2) (nI kc3) (nI kc4) (nI kc5) (nI kc6) (nI kc7) yts (nI gi) yga (ar_N ww) (ar_N rg) (ar_N ce) gs (ar_N kd) (ar_N fa) ybs ycs (ar_N sg) ywd (ar_O so) ycd yws (ar_N nb) (ar_N sy) (ar_N vl) (ar_N pv) (ar_N pc) ygu (ar_N gv) (ar_N dn) (ar_N wo) (ar_N pp) (ar_N yo) (ar_N wh) (ar_N wt) (ar_N wi) (ar_N tr) (ar_N tg) yone ytwo ylv (d + 1) w := by
      intro q w ew
      rw [ew, nI_1]
      refine ih (t + 1) (by omega) (fun ⟨i, c1, c2⟩ => h1 ⟨i, by omega, c2⟩) (fun c => h0 (fun ⟨i, c1, c2, c3⟩ => ?_))
      by_cases e : i = t
      · subst e; exact q c3
      · exact c ⟨i, by omega, c2, c3⟩
    rw [wY_isNeeded_64]
    refine br_f (nI_ge (b := 7) (by omega) (by omega)) ⟨b7, ?_⟩
    rw [nI_clamp (by omega), ar_Oap]
    by_cases z : so t = 0
    · exact br_t (by rw [z]; decide) (go (fun q => q.1 z))
    · obtain ⟨c1, c2, c3, w1, w2, w3⟩ := s2 z
      refine br_f (by rw [show (0 : Int32) = nI 0 from rfl, ar_ilt (by omega) (by omega)]; omega) ⟨b7, ?_⟩
      rw [w2, c2]
      refine pk_le (ws t) s (fun q => go (fun c => by omega)) (fun q => ⟨b7, ?_⟩)
      by_cases a : so t = n + 1
      · exact br_t (by rw [a]; rfl) (h1 ⟨t, Nat.le_refl _, by omega, z, q, Or.inl a⟩)
      refine br_f (by rw [ar_ien (by omega) (by omega)]; exact a) ⟨b7, ?_⟩
      by_cases b : cd t = n + 1
      · exact br_t (by rw [b]; rfl) (h1 ⟨t, Nat.le_refl _, by omega, z, q, Or.inr (Or.inl b)⟩)
      refine br_f (by rw [ar_ien (by omega) (by omega)]; exact b) ?_
      refine pk_eq t 6 (fun h6 => ?_) (fun h6 => go (fun c => ?_))
      · obtain ⟨a1, a2, a3⟩ := hM.2.2.2.2 (by rw [← h6]; exact z)
        refine pk_eq ad n (fun c => h1 ⟨t, Nat.le_refl _, by omega, z, q, Or.inr (Or.inr ⟨h6, c⟩)⟩) (fun c => go (fun e => ?_)) a2
        rcases e.2.2 with e | e | e
        · exact a e
        · exact b e
        · exact c e.2
      · rcases c.2.2 with e | e | e
        · exact a e
        · exact b e
        · exact h6 e.1
theorem xq_nd26 {k : Nat} {J4 : Int32 → Prop} (hM : re_M st nd kd fa sb tc sg wd ww so cd ws ad gs xcd xws ycd yws ybs ycs xad yad) (hn : n < nd) (hs : s < 5) (hk : k < nd) : ∀ d j, j + d = re_op (kd k) → ((∃ i, j ≤ i ∧ i < re_op (kd k) ∧ s < sg k ∧ re_nm fa sb tc k i = n) → post 1) → ((¬ ∃ i, j ≤ i ∧ i < re_op (kd k) ∧ s < sg k ∧ re_nm fa sb tc k i = n) → J4 (nI (k + 1))) → wX_isNeeded_26 post J4 (nI n) (nI s) (nI k) (nI (re_op (kd k))) (nI st) (nI nd) (nI bu) xad (nI nx) xga xto (ar_N kd) (ar_N sb) (ar_N tc) (ar_N sg) (ar_N wd) (ar_N fa) (ar_N ww) gs (ar_O so) xcd xws (ar_N rg) (ar_N ce) (ar_O nm) xon xgu (ar_N xdn) (ar_N xsn) (ar_N xpr) (ar_N xcl) xtr (ar_N ct) xlf xrt xlv (d + 1) (nI j) := by
  have hst := hM.1
  have hkd := (hM.2.1 k hk).1
  have sk := (hM.2.1 k hk).2.2.2.2.2.2.2.1
  obtain ⟨o1, o2, o3, o4⟩ := re_opv (kk := kd k) (by omega)
  intro d
  induction d with
  | zero =>
    intro j hj h1 h0
    rw [wX_isNeeded_26]
    refine br_t (nI_le (by omega) (by omega)) (fun w ew => ?_)
    rw [ew, nI_1]
    refine h0 ?_
    rintro ⟨i, q1, q2, -⟩
    omega
  | succ d ih =>
    intro j hj h1 h0
    obtain ⟨r1, r2, -⟩ := re_nmB (j := j) hM hk (by omega)
    have go : ¬ (s < sg k ∧ re_nm fa sb tc k j = n) → ∀ w : Int32, w = nI j + 1 → wX_isNeeded_26 post J4 (nI n) (nI s) (nI k) (nI (re_op (kd k))) (nI st) (nI nd) (nI bu) xad (nI nx) xga xto (ar_N kd) (ar_N sb) (ar_N tc) (ar_N sg) (ar_N wd) (ar_N fa) (ar_N ww) gs (ar_O so) xcd xws (ar_N rg) (ar_N ce) (ar_O nm) xon xgu (ar_N xdn) (ar_N xsn) (ar_N xpr) (ar_N xcl) xtr (ar_N ct) xlf xrt xlv (d + 1) w := by
      intro q w ew
      rw [ew, nI_1]
      refine ih (j + 1) (by omega) (fun ⟨i, c1, c2⟩ => h1 ⟨i, by omega, c2⟩) (fun c => h0 (fun ⟨i, c1, c2, c3⟩ => ?_))
      by_cases e : i = j
      · subst e; exact q c3
      · exact c ⟨i, by omega, c2, c3⟩
    rw [wX_isNeeded_26]
    refine br_f (nI_ge (by omega) (by omega)) ⟨vp_in_nI (by omega) (by omega), ?_⟩
    rw [nI_clamp (by omega), ar_Nap]
    refine pk_le (sg k) s (fun q => go (fun c => by omega)) (fun q => ?_)
    refine xq_named (by omega) (by omega) ?_
    exact pk_eq (re_nm fa sb tc k j) n (fun c => h1 ⟨j, Nat.le_refl _, by omega, q, c⟩) (fun c => go (fun e => c e.2))
theorem yq_nd13 {k : Nat} {J2 : Int32 → Prop} (hM : re_M st nd kd fa sb tc sg wd ww so cd ws ad gs xcd xws ycd yws ybs ycs xad yad) (hn : n < nd) (hs : s < 5) (hk : k < nd) : ∀ d j, j + d = re_op (kd k) → ((∃ i, j ≤ i ∧ i < re_op (kd k) ∧ s < sg k ∧ re_nm fa sb tc k i = n) → post 1) → ((¬ ∃ i, j ≤ i ∧ i < re_op (kd k) ∧ s < sg k ∧ re_nm fa sb tc k i = n) → J2 (nI (k + 1))) → wY_isNeeded_13 post J2 (nI n) (nI s) (nI k) (nI st) (nI nd) (nI bu) yad (nI wk) (nI nx) (nI kc1) (nI kc0) (nI kc2) (nI kc3) (nI kc4) (nI kc5) (nI kc6) (nI kc7) yts (nI gi) yga (ar_N ww) (ar_N rg) (ar_N ce) gs (ar_N kd) (ar_N fa) ybs ycs (ar_N sg) ywd (ar_O so) ycd yws (ar_N nb) (ar_N sy) (ar_N vl) (ar_N pv) (ar_N pc) ygu (ar_N gv) (ar_N dn) (ar_N wo) (ar_N pp) (ar_N yo) (ar_N wh) (ar_N wt) (ar_N wi) (ar_N tr) (ar_N tg) yone ytwo ylv (d + 1) (nI j) := by
  have hst := hM.1
  have hkd := (hM.2.1 k hk).1
  have sk := (hM.2.1 k hk).2.2.2.2.2.2.2.1
  have bk := vp_in_nI (show k < 24 by omega) (show 24 < 2 ^ 31 by omega)
  obtain ⟨o1, o2, o3, o4⟩ := re_opv (kk := kd k) (by omega)
  intro d
  induction d with
  | zero =>
    intro j hj h1 h0
    rw [wY_isNeeded_13, nI_clamp (by omega), ar_Nap]
    refine ⟨bk, yq_operands (by omega) (br_t (nI_le (by omega) (by omega)) (fun w ew => ?_))⟩
    rw [ew, nI_1]
    refine h0 ?_
    rintro ⟨i, q1, q2, -⟩
    omega
  | succ d ih =>
    intro j hj h1 h0
    obtain ⟨r1, r2, r3, r4⟩ := re_nmB (j := j) hM hk (by omega)
    rw [wY_isNeeded_13, nI_clamp (by omega), ar_Nap, ar_Nap]
    refine ⟨bk, yq_operands (by omega) (br_f (nI_ge (by omega) (by omega)) ⟨bk, ?_⟩)⟩
    refine pk_le (sg k) s (fun q w ew => ?_) (fun q => ?_)
    · rw [ew, nI_1]
      exact h0 (fun ⟨i, c1, c2, c3, c4⟩ => by omega)
    · refine yq_operand (sb := sb) (tc := tc) (by omega) (by omega) r3 r4 ?_
      refine pk_eq (re_nm fa sb tc k j) n (fun c => h1 ⟨j, Nat.le_refl _, by omega, q, c⟩) (fun c w ew => ?_)
      rw [ew, nI_1]
      refine ih (j + 1) (by omega) (fun ⟨i, c1, c2⟩ => h1 ⟨i, by omega, c2⟩) (fun c2 => h0 (fun ⟨i, d1, d2, d3, d4⟩ => ?_))
      by_cases e : i = j
      · subst e; exact c d4
      · exact c2 ⟨i, by omega, d2, d3, d4⟩
theorem xq_isNeeded (hM : re_M st nd kd fa sb tc sg wd ww so cd ws ad gs xcd xws ycd yws ybs ycs xad yad) (hn : n < nd) (hs : s < 5) (h1 : re_nn nd kd fa sb tc sg so cd ws ad n s → post 1) (h0 : ¬ re_nn nd kd fa sb tc sg so cd ws ad n s → post 0) : wpX_isNeeded post (nI st, nI nd, nI bu, xad, nI nx, xga, xto, ar_N kd, ar_N sb, ar_N tc, ar_N sg, ar_N wd, ar_N fa, ar_N ww, gs, ar_O so, xcd, xws, ar_N rg, ar_N ce, ar_O nm, xon, xgu, ar_N xdn, ar_N xsn, ar_N xpr, ar_N xcl, xtr, ar_N ct, xlf, xrt, xlv) (nI n) (nI s) := by
  have hst := hM.1
  have main : ∀ d k, k + d = nd → (re_n1 nd kd fa sb tc sg n s k ∨ re_n2 so cd ws ad n s 0 → post 1) → (¬ (re_n1 nd kd fa sb tc sg n s k ∨ re_n2 so cd ws ad n s 0) → post 0) → wX_isNeeded_4 post (nI n) (nI s) (nI st) (nI nd) (nI bu) xad (nI nx) xga xto (ar_N kd) (ar_N sb) (ar_N tc) (ar_N sg) (ar_N wd) (ar_N fa) (ar_N ww) gs (ar_O so) xcd xws (ar_N rg) (ar_N ce) (ar_O nm) xon xgu (ar_N xdn) (ar_N xsn) (ar_N xpr) (ar_N xcl) xtr (ar_N ct) xlf xrt xlv (d + 1) (nI k) := by
    intro d
    induction d with
    | zero =>
      intro k hk h1 h0
      rw [wX_isNeeded_4]
      refine br_t (nI_le (by omega) (by omega)) ⟨8, xq_nd70 hM hn hs 7 0 (by omega) (fun q => h1 (Or.inr q)) (fun q => h0 ?_)⟩
      rintro (⟨i, j, c1, c2, -⟩ | c)
      · omega
      · exact q c
    | succ d ih =>
      intro k hk h1 h0
      have hkd := (hM.2.1 k (by omega)).1
      rw [wX_isNeeded_4]
      refine br_f (nI_ge (by omega) (by omega)) ⟨vp_in_nI (by omega) (by omega), ?_⟩
      rw [nI_clamp (by omega), ar_Nap]
      refine xq_operands (by omega) ⟨_, xq_nd26 hM hn hs (by omega) (re_op (kd k)) 0 (by omega) (fun ⟨i, _, q2, q3, q4⟩ => h1 (Or.inl ⟨k, i, Nat.le_refl _, by omega, q2, q3, q4⟩)) (fun q => ?_)⟩
      refine ih (k + 1) (by omega) (fun c => h1 ?_) (fun c => h0 (fun e => c ?_))
      · rcases c with ⟨i, j, c1, c2, c3⟩ | c
        · exact Or.inl ⟨i, j, by omega, c2, c3⟩
        · exact Or.inr c
      · rcases e with ⟨i, j, c1, c2, c3, c4, c5⟩ | e
        · by_cases ei : i = k
          · subst ei; exact absurd ⟨j, Nat.zero_le _, c3, c4, c5⟩ q
          · exact Or.inl ⟨i, j, by omega, c2, c3, c4, c5⟩
        · exact Or.inr e
  -- no node at or before it names it
  have low : re_n1 nd kd fa sb tc sg n s 0 → re_n1 nd kd fa sb tc sg n s (n + 1) := by
    rintro ⟨i, j, c1, c2, c3, c4, c5⟩
    have := (re_nmB (j := j) hM c2 c3).1
    exact ⟨i, j, by omega, c2, c3, c4, c5⟩
  unfold wpX_isNeeded
  dsimp only
  intro w ew
  rw [ew, nI_1]
  refine ⟨_, main (nd - (n + 1)) (n + 1) (by omega) (fun q => h1 ?_) (fun q => h0 (fun c => q ?_))⟩
  · rcases q with ⟨i, j, c1, c2, c3⟩ | q
    · exact Or.inl ⟨i, j, Nat.zero_le _, c2, c3⟩
    · exact Or.inr q
  · rcases c with c | c
    · exact Or.inl (low c)
    · exact Or.inr c
theorem yq_isNeeded (hM : re_M st nd kd fa sb tc sg wd ww so cd ws ad gs xcd xws ycd yws ybs ycs xad yad) (hn : n < nd) (hs : s < 5) (h1 : re_nn nd kd fa sb tc sg so cd ws ad n s → post 1) (h0 : ¬ re_nn nd kd fa sb tc sg so cd ws ad n s → post 0) : wpY_isNeeded post (nI st, nI nd, nI bu, yad, nI wk, nI nx, nI kc1, nI kc0, nI kc2, nI kc3, nI kc4, nI kc5, nI kc6, nI kc7, yts, nI gi, yga, ar_N ww, ar_N rg, ar_N ce, gs, ar_N kd, ar_N fa, ybs, ycs, ar_N sg, ywd, ar_O so, ycd, yws, ar_N nb, ar_N sy, ar_N vl, ar_N pv, ar_N pc, ygu, ar_N gv, ar_N dn, ar_N wo, ar_N pp, ar_N yo, ar_N wh, ar_N wt, ar_N wi, ar_N tr, ar_N tg, yone, ytwo, ylv) (nI n) (nI s) := by
  have hst := hM.1
  have main : ∀ d k, k + d = nd → (re_n1 nd kd fa sb tc sg n s k ∨ re_n2 so cd ws ad n s 0 → post 1) → (¬ (re_n1 nd kd fa sb tc sg n s k ∨ re_n2 so cd ws ad n s 0) → post 0) → wY_isNeeded_2 post (nI n) (nI s) (nI st) (nI nd) (nI bu) yad (nI wk) (nI nx) (nI kc1) (nI kc0) (nI kc2) (nI kc3) (nI kc4) (nI kc5) (nI kc6) (nI kc7) yts (nI gi) yga (ar_N ww) (ar_N rg) (ar_N ce) gs (ar_N kd) (ar_N fa) ybs ycs (ar_N sg) ywd (ar_O so) ycd yws (ar_N nb) (ar_N sy) (ar_N vl) (ar_N pv) (ar_N pc) ygu (ar_N gv) (ar_N dn) (ar_N wo) (ar_N pp) (ar_N yo) (ar_N wh) (ar_N wt) (ar_N wi) (ar_N tr) (ar_N tg) yone ytwo ylv (d + 1) (nI k) := by
    intro d
    induction d with
    | zero =>
      intro k hk h1 h0
      rw [wY_isNeeded_2]
      refine br_t (nI_le (by omega) (by omega)) ⟨8, yq_nd64 hM hn hs 7 0 (by omega) (fun q => h1 (Or.inr q)) (fun q => h0 ?_)⟩
      rintro (⟨i, j, c1, c2, -⟩ | c)
      · omega
      · exact q c
    | succ d ih =>
      intro k hk h1 h0
      rw [wY_isNeeded_2]
      refine br_f (nI_ge (by omega) (by omega)) ⟨_, yq_nd13 hM hn hs (by omega) (re_op (kd k)) 0 (by omega) (fun ⟨i, _, q2, q3, q4⟩ => h1 (Or.inl ⟨k, i, Nat.le_refl _, by omega, q2, q3, q4⟩)) (fun q => ?_)⟩
      refine ih (k + 1) (by omega) (fun c => h1 ?_) (fun c => h0 (fun e => c ?_))
      · rcases c with ⟨i, j, c1, c2, c3⟩ | c
        · exact Or.inl ⟨i, j, by omega, c2, c3⟩
        · exact Or.inr c
      · rcases e with ⟨i, j, c1, c2, c3, c4, c5⟩ | e
        · by_cases ei : i = k
          · subst ei; exact absurd ⟨j, Nat.zero_le _, c3, c4, c5⟩ q
          · exact Or.inl ⟨i, j, by omega, c2, c3, c4, c5⟩
        · exact Or.inr e
  exact ⟨nd + 1, main nd 0 (by omega) h1 h0⟩
theorem pr_car2 (hM : re_M st nd kd fa sb tc sg wd ww so cd ws ad gs xcd xws ycd yws ybs ycs xad yad) (hs : s < 5) : ∀ d t c, t + d = 7 → ∃ B : Nat, (∀ post : Int32 → Prop, post (nI B) → wX_carried_60 post (nI s) (nI st) (nI nd) (nI bu) xad (nI nx) xga xto (ar_N kd) (ar_N sb) (ar_N tc) (ar_N sg) (ar_N wd) (ar_N fa) (ar_N ww) gs (ar_O so) xcd xws (ar_N rg) (ar_N ce) (ar_O nm) xon xgu (ar_N xdn) (ar_N xsn) (ar_N xpr) (ar_N xcl) xtr (ar_N ct) xlf xrt xlv (d + 1) (nI c) (nI t)) ∧ (∀ post : Int32 → Prop, post (nI B) → wY_carried_48 post (nI s) (nI st) (nI nd) (nI bu) yad (nI wk) (nI nx) (nI kc1) (nI kc0) (nI kc2) (nI kc3) (nI kc4) (nI kc5) (nI kc6) (nI kc7) yts (nI gi) yga (ar_N ww) (ar_N rg) (ar_N ce) gs (ar_N kd) (ar_N fa) ybs ycs (ar_N sg) ywd (ar_O so) ycd yws (ar_N nb) (ar_N sy) (ar_N vl) (ar_N pv) (ar_N pc) ygu (ar_N gv) (ar_N dn) (ar_N wo) (ar_N pp) (ar_N yo) (ar_N wh) (ar_N wt) (ar_N wi) (ar_N tr) (ar_N tg) yone ytwo ylv (d + 1) (nI c) (nI t)) := by
  have hst := hM.1
  intro d
  induction d with
  | zero =>
    intro t c ht
    refine ⟨c, fun post hp => ?_, fun post hp => ?_⟩
    · rw [wX_carried_60]; exact br_t (nI_lt (a := 6) (by omega) (by omega)) hp
    · rw [wY_carried_48]; exact br_t (nI_le (a := 7) (by omega) (by omega)) hp
  | succ d ih =>
    intro t c ht
    have b7 := vp_in_nI (show t < 7 by omega) (show 7 < 2 ^ 31 by omega)
    obtain ⟨s1, s2⟩ := hM.2.2.2.1 t (by omega)
    have zneg : so t ≠ 0 → ¬ ar_i (so t) < 0 := fun z => by rw [show (0 : Int32) = nI 0 from rfl, ar_ilt (by omega) (by omega)]; omega
    by_cases go : so t ≠ 0 ∧ ws t ≤ s
    · obtain ⟨z, q⟩ := go
      obtain ⟨c1, c2, c3, w1, w2, w3⟩ := s2 z
      obtain ⟨W, hW⟩ : ∃ W : Nat, W = if t = 6 then 12 else ww t := ⟨_, rfl⟩
      obtain ⟨B, i1, i2⟩ := ih (t + 1) (c + W + (if cd t = 0 then 0 else 1)) (by omega)
      refine ⟨B, fun post hp => ?_, fun post hp => ?_⟩
      · have i1 := i1 post hp
        have fin : wX_carried_106 post (wX_carried_60 post (nI s) (nI st) (nI nd) (nI bu) xad (nI nx) xga xto (ar_N kd) (ar_N sb) (ar_N tc) (ar_N sg) (ar_N wd) (ar_N fa) (ar_N ww) gs (ar_O so) xcd xws (ar_N rg) (ar_N ce) (ar_O nm) xon xgu (ar_N xdn) (ar_N xsn) (ar_N xpr) (ar_N xcl) xtr (ar_N ct) xlf xrt xlv (d + 1)) (nI s) (nI t) (nI W) (nI c) (nI st) (nI nd) (nI bu) xad (nI nx) xga xto (ar_N kd) (ar_N sb) (ar_N tc) (ar_N sg) (ar_N wd) (ar_N fa) (ar_N ww) gs (ar_O so) xcd xws (ar_N rg) (ar_N ce) (ar_O nm) xon xgu (ar_N xdn) (ar_N xsn) (ar_N xpr) (ar_N xcl) xtr (ar_N ct) xlf xrt xlv := by
          unfold wX_carried_106
          intro y ey
          rw [ar_add] at ey
          refine ⟨b7, ?_⟩
          rw [nI_clamp (by omega), c1, ey]
          by_cases zc : cd t = 0
          · rw [if_pos zc, Nat.add_zero] at i1
            refine br_t (by rw [zc]; decide) (fun w ew => ?_)
            rw [ew, nI_1]; exact i1
          · rw [if_neg zc] at i1
            refine br_f (by rw [show (0 : Int32) = nI 0 from rfl, ar_ilt (by omega) (by omega)]; omega) (fun v ev w ew => ?_)
            rw [ev, ew, nI_1, nI_1]; exact i1
        rw [wX_carried_60]
        refine br_f (nI_nlt (a := 6) (by omega) (by omega)) ⟨b7, ?_⟩
        rw [nI_clamp (by omega), ar_Oap, w1, ar_Nap]
        refine br_f (zneg z) ⟨b7, br_t (nI_le q (by omega)) ?_⟩
        refine pk_eq t 6 (fun h6 => ?_) (fun h6 => ⟨vp_in_nI (by omega) (by omega), ?_⟩)
        · rw [if_pos h6] at hW; rw [hW] at fin; exact fin
        · rw [if_neg h6] at hW; rw [hW] at fin; exact fin
      · have i2 := i2 post hp
        have fin : wY_carried_91 post (wY_carried_48 post (nI s) (nI st) (nI nd) (nI bu) yad (nI wk) (nI nx) (nI kc1) (nI kc0) (nI kc2) (nI kc3) (nI kc4) (nI kc5) (nI kc6) (nI kc7) yts (nI gi) yga (ar_N ww) (ar_N rg) (ar_N ce) gs (ar_N kd) (ar_N fa) ybs ycs (ar_N sg) ywd (ar_O so) ycd yws (ar_N nb) (ar_N sy) (ar_N vl) (ar_N pv) (ar_N pc) ygu (ar_N gv) (ar_N dn) (ar_N wo) (ar_N pp) (ar_N yo) (ar_N wh) (ar_N wt) (ar_N wi) (ar_N tr) (ar_N tg) yone ytwo ylv (d + 1)) (nI s) (nI t) (nI W) (nI c) (nI st) (nI nd) (nI bu) yad (nI wk) (nI nx) (nI kc1) (nI kc0) (nI kc2) (nI kc3) (nI kc4) (nI kc5) (nI kc6) (nI kc7) yts (nI gi) yga (ar_N ww) (ar_N rg) (ar_N ce) gs (ar_N kd) (ar_N fa) ybs ycs (ar_N sg) ywd (ar_O so) ycd yws (ar_N nb) (ar_N sy) (ar_N vl) (ar_N pv) (ar_N pc) ygu (ar_N gv) (ar_N dn) (ar_N wo) (ar_N pp) (ar_N yo) (ar_N wh) (ar_N wt) (ar_N wi) (ar_N tr) (ar_N tg) yone ytwo ylv := by
          unfold wY_carried_91
          refine ⟨b7, ?_⟩
          rw [nI_clamp (by omega), c2]
          by_cases zc : cd t = 0
          · rw [if_pos zc] at i2
            refine br_f (by rw [zc]; decide) (fun v ev w ew => ?_)
            rw [show (0 : Int32) = nI 0 from rfl, ar_add, ar_add] at ev
            rw [ev, ew, nI_1]; exact i2
          · rw [if_neg zc] at i2
            refine br_t (by rw [show (0 : Int32) = nI 0 from rfl, ar_lei (by omega) (by omega)]; omega) (fun v ev w ew => ?_)
            rw [nI_1, ar_add] at ev
            rw [ev, ew, nI_1]; exact i2
        rw [wY_carried_48]
        refine br_f (nI_ge (b := 7) (by omega) (by omega)) ⟨b7, ?_⟩
        rw [nI_clamp (by omega), ar_Oap, w2, ar_Nap]
        refine br_f (zneg z) ⟨b7, br_f (nI_nlt q (by omega)) ?_⟩
        refine pk_eq t 6 (fun h6 => ?_) (fun h6 => ⟨vp_in_nI (by omega) (by omega), ?_⟩)
        · rw [if_pos h6] at hW; rw [hW] at fin; exact fin
        · rw [if_neg h6] at hW; rw [hW] at fin; exact fin
    · obtain ⟨B, i1, i2⟩ := ih (t + 1) c (by omega)
      refine ⟨B, fun post hp => ?_, fun post hp => ?_⟩
      · have k : ∀ w : Int32, w = nI t + 1 → wX_carried_60 post (nI s) (nI st) (nI nd) (nI bu) xad (nI nx) xga xto (ar_N kd) (ar_N sb) (ar_N tc) (ar_N sg) (ar_N wd) (ar_N fa) (ar_N ww) gs (ar_O so) xcd xws (ar_N rg) (ar_N ce) (ar_O nm) xon xgu (ar_N xdn) (ar_N xsn) (ar_N xpr) (ar_N xcl) xtr (ar_N ct) xlf xrt xlv (d + 1) (nI c) w := fun w ew => by rw [ew, nI_1]; exact i1 post hp
        rw [wX_carried_60]
        refine br_f (nI_nlt (a := 6) (by omega) (by omega)) ⟨b7, ?_⟩
        rw [nI_clamp (by omega), ar_Oap]
        by_cases z : so t = 0
        · exact br_t (by rw [z]; decide) k
        · obtain ⟨c1, c2, c3, w1, w2, w3⟩ := s2 z
          rw [w1]
          exact br_f (zneg z) ⟨b7, br_f (nI_ge (by omega) (by omega)) k⟩
      · have k : ∀ w : Int32, w = nI t + 1 → wY_carried_48 post (nI s) (nI st) (nI nd) (nI bu) yad (nI wk) (nI nx) (nI kc1) (nI kc0) (nI kc2) (nI kc3) (nI kc4) (nI kc5) (nI kc6) (nI kc7) yts (nI gi) yga (ar_N ww) (ar_N rg) (ar_N ce) gs (ar_N kd) (ar_N fa) ybs ycs (ar_N sg) ywd (ar_O so) ycd yws (ar_N nb) (ar_N sy) (ar_N vl) (ar_N pv) (ar_N pc) ygu (ar_N gv) (ar_N dn) (ar_N wo) (ar_N pp) (ar_N yo) (ar_N wh) (ar_N wt) (ar_N wi) (ar_N tr) (ar_N tg) yone ytwo ylv (d + 1) (nI c) w := fun w ew => by rw [ew, nI_1]; exact i2 post hp
        rw [wY_carried_48]
        refine br_f (nI_ge (b := 7) (by omega) (by omega)) ⟨b7, ?_⟩
        rw [nI_clamp (by omega), ar_Oap]
        by_cases z : so t = 0
        · exact br_t (by rw [z]; decide) k
        · obtain ⟨c1, c2, c3, w1, w2, w3⟩ := s2 z
          rw [w2]
          exact br_f (zneg z) ⟨b7, br_t (nI_lt (by omega) (by omega)) k⟩
theorem pr_car1 (hM : re_M st nd kd fa sb tc sg wd ww so cd ws ad gs xcd xws ycd yws ybs ycs xad yad) (hwd : ∀ n, n < nd → ywd n = nI (wd n)) (hs : s < 5) : ∀ d n c, n + d = nd → ∃ B : Nat, (∀ post : Int32 → Prop, post (nI B) → wX_carried_4 post (nI s) (nI st) (nI nd) (nI bu) xad (nI nx) xga xto (ar_N kd) (ar_N sb) (ar_N tc) (ar_N sg) (ar_N wd) (ar_N fa) (ar_N ww) gs (ar_O so) xcd xws (ar_N rg) (ar_N ce) (ar_O nm) xon xgu (ar_N xdn) (ar_N xsn) (ar_N xpr) (ar_N xcl) xtr (ar_N ct) xlf xrt xlv (d + 1) (nI c) (nI n)) ∧ (∀ post : Int32 → Prop, post (nI B) → wY_carried_4 post (nI s) (nI st) (nI nd) (nI bu) yad (nI wk) (nI nx) (nI kc1) (nI kc0) (nI kc2) (nI kc3) (nI kc4) (nI kc5) (nI kc6) (nI kc7) yts (nI gi) yga (ar_N ww) (ar_N rg) (ar_N ce) gs (ar_N kd) (ar_N fa) ybs ycs (ar_N sg) ywd (ar_O so) ycd yws (ar_N nb) (ar_N sy) (ar_N vl) (ar_N pv) (ar_N pc) ygu (ar_N gv) (ar_N dn) (ar_N wo) (ar_N pp) (ar_N yo) (ar_N wh) (ar_N wt) (ar_N wi) (ar_N tr) (ar_N tg) yone ytwo ylv (d + 1) (nI c) (nI n)) := by
  have hst := hM.1
  intro d
  induction d with
  | zero =>
    intro n c hn
    obtain ⟨B, i1, i2⟩ := pr_car2 (s := s) hM hs 7 0 c (by omega)
    refine ⟨B, fun post hp => ?_, fun post hp => ?_⟩
    · rw [wX_carried_4]; exact br_t (nI_le (by omega) (by omega)) ⟨8, i1 post hp⟩
    · rw [wY_carried_4]; exact br_t (nI_le (by omega) (by omega)) ⟨8, i2 post hp⟩
  | succ d ih =>
    intro n c hn
    have bn := vp_in_nI (show n < 24 by omega) (show 24 < 2 ^ 31 by omega)
    have sn := (hM.2.1 n (by omega)).2.2.2.2.2.2.2.1
    by_cases go : sg n ≤ s ∧ re_nn nd kd fa sb tc sg so cd ws ad n s
    · obtain ⟨q, z⟩ := go
      obtain ⟨B, i1, i2⟩ := ih (n + 1) (c + wd n) (by omega)
      refine ⟨B, fun post hp => ?_, fun post hp => ?_⟩
      · have i1 := i1 post hp
        rw [wX_carried_4]
        refine br_f (nI_ge (by omega) (by omega)) ⟨bn, ?_⟩
        rw [nI_clamp (by omega), ar_Nap]
        refine br_f (nI_nlt q (by omega)) ?_
        refine xq_isNeeded hM (by omega) hs (fun _ => ?_) (fun c => absurd z c)
        refine br_f (by decide) ?_
        unfold wX_carried_36
        refine br_f (by decide) ⟨bn, fun v ev w ew => ?_⟩
        rw [nI_clamp (by omega), ar_Nap, ar_add] at ev
        rw [ev, ew, nI_1]; exact i1
      · have i2 := i2 post hp
        rw [wY_carried_4]
        refine br_f (nI_ge (by omega) (by omega)) ⟨bn, ?_⟩
        rw [nI_clamp (by omega), ar_Nap]
        refine br_f (nI_nlt q (by omega)) ?_
        refine yq_isNeeded hM (by omega) hs (fun _ => ?_) (fun c => absurd z c)
        refine br_f (by decide) ⟨bn, fun v ev w ew => ?_⟩
        rw [hwd n (by omega), ar_add] at ev
        rw [ev, ew, nI_1]; exact i2
    · obtain ⟨B, i1, i2⟩ := ih (n + 1) c (by omega)
      refine ⟨B, fun post hp => ?_, fun post hp => ?_⟩
      · have k : wX_carried_35 post (wX_carried_4 post (nI s) (nI st) (nI nd) (nI bu) xad (nI nx) xga xto (ar_N kd) (ar_N sb) (ar_N tc) (ar_N sg) (ar_N wd) (ar_N fa) (ar_N ww) gs (ar_O so) xcd xws (ar_N rg) (ar_N ce) (ar_O nm) xon xgu (ar_N xdn) (ar_N xsn) (ar_N xpr) (ar_N xcl) xtr (ar_N ct) xlf xrt xlv (d + 1)) (nI s) (nI c) (nI n) (nI st) (nI nd) (nI bu) xad (nI nx) xga xto (ar_N kd) (ar_N sb) (ar_N tc) (ar_N sg) (ar_N wd) (ar_N fa) (ar_N ww) gs (ar_O so) xcd xws (ar_N rg) (ar_N ce) (ar_O nm) xon xgu (ar_N xdn) (ar_N xsn) (ar_N xpr) (ar_N xcl) xtr (ar_N ct) xlf xrt xlv := by
          unfold wX_carried_35 wX_carried_36
          refine br_t rfl (fun w ew => ?_)
          rw [ew, nI_1]; exact i1 post hp
        rw [wX_carried_4]
        refine br_f (nI_ge (by omega) (by omega)) ⟨bn, ?_⟩
        rw [nI_clamp (by omega), ar_Nap]
        refine pk_lt s (sg n) (fun _ => k) (fun q => ?_)
        exact xq_isNeeded hM (by omega) hs (fun z => absurd ⟨q, z⟩ go) (fun _ => br_t rfl k)
      · have k : ∀ w : Int32, w = nI n + 1 → wY_carried_4 post (nI s) (nI st) (nI nd) (nI bu) yad (nI wk) (nI nx) (nI kc1) (nI kc0) (nI kc2) (nI kc3) (nI kc4) (nI kc5) (nI kc6) (nI kc7) yts (nI gi) yga (ar_N ww) (ar_N rg) (ar_N ce) gs (ar_N kd) (ar_N fa) ybs ycs (ar_N sg) ywd (ar_O so) ycd yws (ar_N nb) (ar_N sy) (ar_N vl) (ar_N pv) (ar_N pc) ygu (ar_N gv) (ar_N dn) (ar_N wo) (ar_N pp) (ar_N yo) (ar_N wh) (ar_N wt) (ar_N wi) (ar_N tr) (ar_N tg) yone ytwo ylv (d + 1) (nI c) w := fun w ew => by rw [ew, nI_1]; exact i2 post hp
        rw [wY_carried_4]
        refine br_f (nI_ge (by omega) (by omega)) ⟨bn, ?_⟩
        rw [nI_clamp (by omega), ar_Nap]
        refine pk_lt s (sg n) (fun _ => k) (fun q => ?_)
        exact yq_isNeeded hM (by omega) hs (fun z => absurd ⟨q, z⟩ go) (fun _ => br_t rfl k)
theorem pr_carried (hM : re_M st nd kd fa sb tc sg wd ww so cd ws ad gs xcd xws ycd yws ybs ycs xad yad) (hwd : ∀ n, n < nd → ywd n = nI (wd n)) (hs : s < 5) : ∃ B : Nat, (∀ post : Int32 → Prop, post (nI B) → wpX_carried post (nI st, nI nd, nI bu, xad, nI nx, xga, xto, ar_N kd, ar_N sb, ar_N tc, ar_N sg, ar_N wd, ar_N fa, ar_N ww, gs, ar_O so, xcd, xws, ar_N rg, ar_N ce, ar_O nm, xon, xgu, ar_N xdn, ar_N xsn, ar_N xpr, ar_N xcl, xtr, ar_N ct, xlf, xrt, xlv) (nI s)) ∧ (∀ post : Int32 → Prop, post (nI B) → wpY_carried post (nI st, nI nd, nI bu, yad, nI wk, nI nx, nI kc1, nI kc0, nI kc2, nI kc3, nI kc4, nI kc5, nI kc6, nI kc7, yts, nI gi, yga, ar_N ww, ar_N rg, ar_N ce, gs, ar_N kd, ar_N fa, ybs, ycs, ar_N sg, ywd, ar_O so, ycd, yws, ar_N nb, ar_N sy, ar_N vl, ar_N pv, ar_N pc, ygu, ar_N gv, ar_N dn, ar_N wo, ar_N pp, ar_N yo, ar_N wh, ar_N wt, ar_N wi, ar_N tr, ar_N tg, yone, ytwo, ylv) (nI s)) := by
  obtain ⟨B, i1, i2⟩ := pr_car1 (s := s) hM hwd hs nd 0 0 (by omega)
  exact ⟨B, fun post hp => ⟨_, i1 post hp⟩, fun post hp => ⟨_, i2 post hp⟩⟩
end
end
section
/-! handers and delays -/
section
variable {st nd bu nx wk kc1 kc0 kc2 kc3 kc4 kc5 kc6 kc7 gi ad : Nat} {xad xga xto yad yts yga : Int32} {kd sb tc sg wd fa ww so rg ce nm xdn xsn xpr xcl ct nb sy vl pv pc gv dn wo pp yo wh wt wi tr tg cd ws : Nat → Nat} {gs xcd xws xon xgu xlf xrt xlv ybs ycs ywd ycd yws ygu yone ytwo ylv : Nat → Int32} {xtr : Nat → Int64}
variable {post : Int32 → Prop} {n t : Nat}
theorem yq_hand38 (hM : re_M st nd kd fa sb tc sg wd ww so cd ws ad gs xcd xws ycd yws ybs ycs xad yad) (hn : n < nd) (ht : t < 7) (hso : so t ≠ 0) {F : Nat} (hF : F = if ws t ≤ sg n + 1 then sg n + 1 else ws t) (hp : post (nI (st - F))) : ∀ d s c, s + d = st → c = s - F → wY_handers_38 post (nI n) (nI t) (nI st) (nI nd) (nI bu) yad (nI wk) (nI nx) (nI kc1) (nI kc0) (nI kc2) (nI kc3) (nI kc4) (nI kc5) (nI kc6) (nI kc7) yts (nI gi) yga (ar_N ww) (ar_N rg) (ar_N ce) gs (ar_N kd) (ar_N fa) ybs ycs (ar_N sg) ywd (ar_O so) ycd yws (ar_N nb) (ar_N sy) (ar_N vl) (ar_N pv) (ar_N pc) ygu (ar_N gv) (ar_N dn) (ar_N wo) (ar_N pp) (ar_N yo) (ar_N wh) (ar_N wt) (ar_N wi) (ar_N tr) (ar_N tg) yone ytwo ylv (d + 1) (nI c) (nI s) := by
  have hst := hM.1
  have sn := (hM.2.1 n hn).2.2.2.2.2.2.2.1
  obtain ⟨c1, c2, c3, w1, w2, w3⟩ := (hM.2.2.2.1 t ht).2 hso
  have hF2 : (∀ s, s ≤ sg n → s < F) ∧ (∀ s, s < ws t → s < F) ∧ (∀ s, sg n < s → ws t ≤ s → F ≤ s) := by
    by_cases c : ws t ≤ sg n + 1
    · rw [if_pos c] at hF
      exact ⟨fun s h => by omega, fun s h => by omega, fun s h1 h2 => by omega⟩
    · rw [if_neg c] at hF
      exact ⟨fun s h => by omega, fun s h => by omega, fun s h1 h2 => by omega⟩
  obtain ⟨f1, f2, f3⟩ := hF2
  intro d
  induction d with
  | zero =>
    intro s c hs hc
    have e : s = st := by omega
    subst e
    subst hc
    rw [wY_handers_38]
    exact br_t (nI_le (by omega) (by omega)) hp
  | succ d ih =>
    intro s c hs hc
    subst hc
    have i1 := ih (s + 1) (s + 1 - F) (by omega) rfl
    rw [wY_handers_38]
    refine br_f (nI_ge (by omega) (by omega)) ⟨vp_in_nI (by omega) (by omega), ?_⟩
    rw [nI_clamp (by omega), nI_clamp (by omega), ar_Nap, w2]
    refine pk_le s (sg n) (fun q w ew => ?_) (fun q => ⟨vp_in_nI ht (by omega), ?_⟩)
    · have := f1 s q
      rw [show s + 1 - F = s - F by omega] at i1
      rw [ew, nI_1]; exact i1
    · refine pk_lt s (ws t) (fun q2 w ew => ?_) (fun q2 v ev w ew => ?_)
      · have := f2 s q2
        rw [show s + 1 - F = s - F by omega] at i1
        rw [ew, nI_1]; exact i1
      · have := f3 s q q2
        rw [show s + 1 - F = s - F + 1 by omega] at i1
        rw [ev, ew, nI_1, nI_1]; exact i1
theorem pr_d23t {w : Nat} (hM : re_M st nd kd fa sb tc sg wd ww so cd ws ad gs xcd xws ycd yws ybs ycs xad yad) (hn : n < nd) (ht : t < 7) (hw : w = 2 ∨ w = 3) : ∃ B : Nat, (∀ poss : Int32 → SX → Prop, poss (nI B) (nI st, nI nd, nI bu, xad, nI nx, xga, xto, ar_N kd, ar_N sb, ar_N tc, ar_N sg, ar_N wd, ar_N fa, ar_N ww, gs, ar_O so, xcd, xws, ar_N rg, ar_N ce, ar_O nm, xon, xgu, ar_N xdn, ar_N xsn, ar_N xpr, ar_N xcl, xtr, ar_N ct, xlf, xrt, xlv) → wX_derive_131 poss (nI w) (nI n) (nI t) (nI st) (nI nd) (nI bu) xad (nI nx) xga xto (ar_N kd) (ar_N sb) (ar_N tc) (ar_N sg) (ar_N wd) (ar_N fa) (ar_N ww) gs (ar_O so) xcd xws (ar_N rg) (ar_N ce) (ar_O nm) xon xgu (ar_N xdn) (ar_N xsn) (ar_N xpr) (ar_N xcl) xtr (ar_N ct) xlf xrt xlv) ∧ (w = 2 → ∀ post : Int32 → Prop, post (nI B) → wY_handers_21 post (nI n) (nI t) (nI st) (nI nd) (nI bu) yad (nI wk) (nI nx) (nI kc1) (nI kc0) (nI kc2) (nI kc3) (nI kc4) (nI kc5) (nI kc6) (nI kc7) yts (nI gi) yga (ar_N ww) (ar_N rg) (ar_N ce) gs (ar_N kd) (ar_N fa) ybs ycs (ar_N sg) ywd (ar_O so) ycd yws (ar_N nb) (ar_N sy) (ar_N vl) (ar_N pv) (ar_N pc) ygu (ar_N gv) (ar_N dn) (ar_N wo) (ar_N pp) (ar_N yo) (ar_N wh) (ar_N wt) (ar_N wi) (ar_N tr) (ar_N tg) yone ytwo ylv) ∧ (w = 3 → ∀ post : Int32 → Prop, post (nI B) → wY_delay_21 post (nI n) (nI t) (nI st) (nI nd) (nI bu) yad (nI wk) (nI nx) (nI kc1) (nI kc0) (nI kc2) (nI kc3) (nI kc4) (nI kc5) (nI kc6) (nI kc7) yts (nI gi) yga (ar_N ww) (ar_N rg) (ar_N ce) gs (ar_N kd) (ar_N fa) ybs ycs (ar_N sg) ywd (ar_O so) ycd yws (ar_N nb) (ar_N sy) (ar_N vl) (ar_N pv) (ar_N pc) ygu (ar_N gv) (ar_N dn) (ar_N wo) (ar_N pp) (ar_N yo) (ar_N wh) (ar_N wt) (ar_N wi) (ar_N tr) (ar_N tg) yone ytwo ylv) := by
  have hst := hM.1
  have sn := (hM.2.1 n hn).2.2.2.2.2.2.2.1
  have bn := vp_in_nI (show n < 24 by omega) (show 24 < 2 ^ 31 by omega)
  have b7 := vp_in_nI ht (show 7 < 2 ^ 31 by omega)
  obtain ⟨s1, s2⟩ := hM.2.2.2.1 t ht
  by_cases z : so t = 0
  · refine ⟨0, fun poss hp => ?_, fun _ post hp => ?_, fun _ post hp => ?_⟩
    · unfold wX_derive_131
      refine ⟨bn, fun y ey => ⟨b7, ?_⟩⟩
      rw [nI_clamp (by omega), ar_Oap, z]
      exact br_f (by decide) hp
    · unfold wY_handers_21
      rw [nI_clamp (by omega), ar_Oap, z]
      exact ⟨b7, br_f (by decide) hp⟩
    · unfold wY_delay_21
      rw [nI_clamp (by omega), ar_Oap, z]
      exact ⟨b7, br_t (by decide) hp⟩
  obtain ⟨c1, c2, c3, w1, w2, w3⟩ := s2 z
  have zp : (0 : Int32) ≤ ar_i (so t) := by rw [show (0 : Int32) = nI 0 from rfl, ar_lei (by omega) (by omega)]; omega
  have zn : ¬ ar_i (so t) < 0 := by rw [show (0 : Int32) = nI 0 from rfl, ar_ilt (by omega) (by omega)]; omega
  rcases hw with rfl | rfl
  · refine ⟨st - (if ws t ≤ sg n + 1 then sg n + 1 else ws t), fun poss hp => ?_, fun _ post hp => ?_, fun q => absurd q (by omega)⟩
    · unfold wX_derive_131
      refine ⟨bn, fun y ey => ⟨b7, ?_⟩⟩
      rw [nI_clamp (by omega), ar_Nap] at ey
      rw [nI_clamp (by omega), ar_Oap, ey, w1, nI_1]
      refine br_t zp (br_f (by decide) ⟨b7, xq_greater (by omega) (by omega) ?_⟩)
      generalize hF : (if ws t ≤ sg n + 1 then sg n + 1 else ws t) = F at *
      have F5 : F ≤ 5 := by
        by_cases c : ws t ≤ sg n + 1
        · rw [if_pos c] at hF; omega
        · rw [if_neg c] at hF; omega
      by_cases c : F ≤ st
      · rw [pk_sub c]
        refine xq_greater (b := 0) (by omega) (by omega) ?_
        by_cases d : st - F ≤ 0
        · rw [if_pos d, show 0 = st - F by omega]; exact hp
        · rw [if_neg d]; exact hp
      · have neg := pk_sneg (a := st) (b := F) (by omega) (by omega)
        rw [show st - F = 0 by omega] at hp
        unfold wpX_greater
        exact br_t (Int32.le_of_lt neg) hp
    · unfold wY_handers_21
      rw [nI_clamp (by omega), ar_Oap]
      exact ⟨b7, br_t zp ⟨st + 1, yq_hand38 (n := n) (t := t) hM hn ht z rfl hp st 0 0 (by omega) (by rw [Nat.zero_sub])⟩⟩
  · by_cases g : t ≠ 6 ∧ gs t ≠ 9
    · obtain ⟨g1, g2⟩ := g
      have g9 := (hM.2.2.1 t (by omega)).2.2
      refine ⟨0, fun poss hp => ?_, fun q => absurd q (by omega), fun _ post hp => ?_⟩
      · unfold wX_derive_131
        refine ⟨bn, fun y ey => ⟨b7, ?_⟩⟩
        rw [nI_clamp (by omega), ar_Oap]
        refine br_t zp (br_t rfl (br_f (by rw [show (6 : Int32) = nI 6 from rfl, nI_eq (by omega) (by omega)]; exact g1) ⟨vp_in_nI (by omega) (by omega), br_t ?_ hp⟩))
        exact Int32.lt_of_le_of_ne g9 g2
      · unfold wY_delay_21
        rw [nI_clamp (by omega), ar_Oap]
        refine ⟨b7, br_f zn (br_f (nI_ge (b := 6) (by omega) (by omega)) ⟨vp_in_nI (by omega) (by omega), br_f g2 hp⟩)⟩
    · refine ⟨ws t - sg n - 1, fun poss hp => ?_, fun q => absurd q (by omega), fun _ post hp => ?_⟩
      · have fin : wX_derive_173 poss (nI t) (nI (sg n)) (nI st) (nI nd) (nI bu) xad (nI nx) xga xto (ar_N kd) (ar_N sb) (ar_N tc) (ar_N sg) (ar_N wd) (ar_N fa) (ar_N ww) gs (ar_O so) xcd xws (ar_N rg) (ar_N ce) (ar_O nm) xon xgu (ar_N xdn) (ar_N xsn) (ar_N xpr) (ar_N xcl) xtr (ar_N ct) xlf xrt xlv := by
          unfold wX_derive_173
          rw [nI_clamp (by omega), w1, nI_1]
          refine ⟨b7, pk_lt (sg n + 1) (ws t) (fun q => ⟨b7, ?_⟩) (fun q => ?_)⟩
          · rw [pk_sub (by omega), show (1 : Int32) = nI 1 from rfl, pk_sub (by omega)]
            exact hp
          · rw [show ws t - sg n - 1 = 0 by omega] at hp
            exact hp
        unfold wX_derive_131
        refine ⟨bn, fun y ey => ⟨b7, ?_⟩⟩
        rw [nI_clamp (by omega), ar_Nap] at ey
        rw [nI_clamp (by omega), ar_Oap, ey]
        refine br_t zp (br_t rfl (pk_eq t 6 (fun _ => fin) (fun h6 => ⟨vp_in_nI (by omega) (by omega), ?_⟩)))
        have g9 : gs t = 9 := by
          by_cases c : gs t = 9
          · exact c
          · exact absurd ⟨h6, c⟩ g
        exact br_f (by rw [g9]; decide) fin
      · have fin : wY_delay_50 post (nI n) (nI t) (nI st) (nI nd) (nI bu) yad (nI wk) (nI nx) (nI kc1) (nI kc0) (nI kc2) (nI kc3) (nI kc4) (nI kc5) (nI kc6) (nI kc7) yts (nI gi) yga (ar_N ww) (ar_N rg) (ar_N ce) gs (ar_N kd) (ar_N fa) ybs ycs (ar_N sg) ywd (ar_O so) ycd yws (ar_N nb) (ar_N sy) (ar_N vl) (ar_N pv) (ar_N pc) ygu (ar_N gv) (ar_N dn) (ar_N wo) (ar_N pp) (ar_N yo) (ar_N wh) (ar_N wt) (ar_N wi) (ar_N tr) (ar_N tg) yone ytwo ylv := by
          unfold wY_delay_50
          rw [nI_clamp (by omega), nI_clamp (by omega), w2, ar_Nap]
          refine ⟨b7, bn, fun y ey => ?_⟩
          rw [ey]
          by_cases c : sg n + 1 ≤ ws t
          · rw [pk_sub (by omega), show (1 : Int32) = nI 1 from rfl, pk_sub (by omega)]
            refine pk_le (ws t - sg n - 1) 0 (fun q => ?_) (fun q => hp)
            rw [show ws t - sg n - 1 = 0 by omega] at hp
            exact hp
          · rw [show ws t - sg n - 1 = 0 by omega] at hp
            refine br_t ?_ hp
            have e : (nI (ws t) - nI (sg n) - 1).toInt = (ws t : Int) - sg n - 1 := by
              rw [Int32.toInt_sub, pk_sub_toInt (by omega) (by omega), show (1 : Int32).toInt = 1 from rfl]
              exact Int.bmod_eq_of_le (by omega) (by omega)
            rw [Int32.le_iff_toInt_le, e, show (0 : Int32).toInt = 0 from rfl]
            omega
        unfold wY_delay_21
        rw [nI_clamp (by omega), ar_Oap]
        refine ⟨b7, br_f zn (pk_le 6 t (fun _ => fin) (fun h6 => ⟨vp_in_nI (by omega) (by omega), ?_⟩))⟩
        have g9 : gs t = 9 := by
          by_cases c : gs t = 9
          · exact c
          · exact absurd ⟨by omega, c⟩ g
        exact br_t g9 fin
theorem pr_d23 {w : Nat} (hM : re_M st nd kd fa sb tc sg wd ww so cd ws ad gs xcd xws ycd yws ybs ycs xad yad) (hn : n < nd) (hk : kd n = 1 ∨ kd n = 2) (hw : w = 2 ∨ w = 3) : ∃ B : Nat, (∀ poss : Int32 → SX → Prop, poss (nI B) (nI st, nI nd, nI bu, xad, nI nx, xga, xto, ar_N kd, ar_N sb, ar_N tc, ar_N sg, ar_N wd, ar_N fa, ar_N ww, gs, ar_O so, xcd, xws, ar_N rg, ar_N ce, ar_O nm, xon, xgu, ar_N xdn, ar_N xsn, ar_N xpr, ar_N xcl, xtr, ar_N ct, xlf, xrt, xlv) → wX_derive_110 poss (nI w) (nI n) (nI st) (nI nd) (nI bu) xad (nI nx) xga xto (ar_N kd) (ar_N sb) (ar_N tc) (ar_N sg) (ar_N wd) (ar_N fa) (ar_N ww) gs (ar_O so) xcd xws (ar_N rg) (ar_N ce) (ar_O nm) xon xgu (ar_N xdn) (ar_N xsn) (ar_N xpr) (ar_N xcl) xtr (ar_N ct) xlf xrt xlv) ∧ (w = 2 → ∀ post : Int32 → Prop, post (nI B) → wpY_handers post (nI st, nI nd, nI bu, yad, nI wk, nI nx, nI kc1, nI kc0, nI kc2, nI kc3, nI kc4, nI kc5, nI kc6, nI kc7, yts, nI gi, yga, ar_N ww, ar_N rg, ar_N ce, gs, ar_N kd, ar_N fa, ybs, ycs, ar_N sg, ywd, ar_O so, ycd, yws, ar_N nb, ar_N sy, ar_N vl, ar_N pv, ar_N pc, ygu, ar_N gv, ar_N dn, ar_N wo, ar_N pp, ar_N yo, ar_N wh, ar_N wt, ar_N wi, ar_N tr, ar_N tg, yone, ytwo, ylv) (nI n)) ∧ (w = 3 → ∀ post : Int32 → Prop, post (nI B) → wpY_delay post (nI st, nI nd, nI bu, yad, nI wk, nI nx, nI kc1, nI kc0, nI kc2, nI kc3, nI kc4, nI kc5, nI kc6, nI kc7, yts, nI gi, yga, ar_N ww, ar_N rg, ar_N ce, gs, ar_N kd, ar_N fa, ybs, ycs, ar_N sg, ywd, ar_O so, ycd, yws, ar_N nb, ar_N sy, ar_N vl, ar_N pv, ar_N pc, ygu, ar_N gv, ar_N dn, ar_N wo, ar_N pp, ar_N yo, ar_N wh, ar_N wt, ar_N wi, ar_N tr, ar_N tg, yone, ytwo, ylv) (nI n)) := by
  have hst := hM.1
  have bn := vp_in_nI (show n < 24 by omega) (show 24 < 2 ^ 31 by omega)
  rcases hk with k1 | k2
  · have hf := (hM.2.1 n hn).2.2.1 k1
    obtain ⟨B, i1, i2, i3⟩ := pr_d23t (t := fa n) hM hn (by omega) hw
    refine ⟨B, fun poss hp => ?_, fun q post hp => ?_, fun q post hp => ?_⟩
    · unfold wX_derive_110
      rw [nI_clamp (by omega), ar_Nap, ar_Nap]
      exact ⟨bn, br_t (by rw [k1]; rfl) ⟨bn, i1 poss hp⟩⟩
    · unfold wpY_handers
      dsimp only
      rw [nI_clamp (by omega), ar_Nap, ar_Nap]
      exact ⟨bn, br_f (by rw [k1]; decide) ⟨bn, i2 q post hp⟩⟩
    · unfold wpY_delay
      dsimp only
      rw [nI_clamp (by omega), ar_Nap, ar_Nap]
      exact ⟨bn, br_f (by rw [k1]; decide) ⟨bn, i3 q post hp⟩⟩
  · obtain ⟨B, i1, i2, i3⟩ := pr_d23t (t := 6) hM hn (by omega) hw
    refine ⟨B, fun poss hp => ?_, fun q post hp => ?_, fun q post hp => ?_⟩
    · unfold wX_derive_110
      rw [nI_clamp (by omega), ar_Nap, ar_Nap]
      exact ⟨bn, br_f (by rw [k2]; decide) (i1 poss hp)⟩
    · unfold wpY_handers
      dsimp only
      rw [nI_clamp (by omega), ar_Nap, ar_Nap]
      exact ⟨bn, br_t (by rw [k2]; rfl) (i2 q post hp)⟩
    · unfold wpY_delay
      dsimp only
      rw [nI_clamp (by omega), ar_Nap, ar_Nap]
      exact ⟨bn, br_t (by rw [k2]; rfl) (i3 q post hp)⟩
end
end
section
/-! gates: the reference's literals against the component's -/
/-- the place of a node among those that a node names -/
def ga_s (fa sb tc : Nat → Nat) (n m : Nat) : Nat := if fa n = m then 0 else if sb n = m then 1 else 2
/-- the component's literal for one of the reference's -/
def ga_t (fa sb tc : Nat → Nat) (n q : Nat) : Nat := if q < 2 then q else if q < 1000 then 2 * (1 + 16 * ga_s fa sb tc n ((q - 2) / 32) + (q - 2) / 2 % 16) + q % 2 else 2 * (50 + (q - 1000) / 2) + q % 2
/-- a literal that is there -/
def ga_v (fa sb tc : Nat → Nat) (n G q : Nat) : Prop := q < 2 ∨ (2 ≤ q ∧ q < 1000 ∧ ((q - 2) / 32 = fa n ∨ (q - 2) / 32 = sb n ∨ (q - 2) / 32 = tc n)) ∨ (1000 ≤ q ∧ q < 1000 + 2 * G)
def ga_n (q : Nat) : Nat := if q % 2 = 0 then q + 1 else q - 1
def ga_l (ly : Nat → Nat) (q : Nat) : Nat := if q < 1000 then 0 else ly ((q - 1000) / 2)
def ga_m (a b : Nat) : Nat := if a ≤ b then b else a
def ga_i (a b : Nat) : Nat := if a ≤ b then a else b
theorem ga_mL (a b : Nat) : a ≤ ga_m a b ∧ b ≤ ga_m a b ∧ (ga_m a b = a ∨ ga_m a b = b) := by unfold ga_m; split <;> omega
theorem ga_mC (a b : Nat) : ga_m a b = ga_m b a := by unfold ga_m; split <;> split <;> omega
theorem ga_iC (a b : Nat) : ga_i a b = ga_i b a := by unfold ga_i; split <;> split <;> omega
theorem ga_n2 (q : Nat) : ga_n (ga_n q) = q := by unfold ga_n; split <;> split <;> omega
theorem ga_x1 (q : Nat) : q ^^^ 1 = ga_n q := by
  unfold ga_n
  have h2 : (q ^^^ 1) / 2 = q / 2 := by
    rw [show (q ^^^ 1) / 2 = (q ^^^ 1) >>> 1 from (Nat.shiftRight_eq_div_pow _ 1).symm, Nat.shiftRight_xor_distrib, show 1 >>> 1 = 0 from rfl, Nat.xor_zero, Nat.shiftRight_eq_div_pow]
  have h1 : (q ^^^ 1) % 2 = (q + 1) % 2 := by
    have := @Nat.xor_mod_two_pow q 1 1
    rw [show 2 ^ 1 = 2 from rfl] at this
    rw [this]
    have : q % 2 = 0 ∨ q % 2 = 1 := by omega
    rcases this with e | e
    · rw [e, show (q + 1) % 2 = 1 by omega]; rfl
    · rw [e, show (q + 1) % 2 = 0 by omega]; rfl
  split <;> omega
theorem ga_xe (a b : Nat) : a ^^^ b = 1 ↔ b = ga_n a := by
  constructor
  · intro h
    have : b = a ^^^ 1 := by rw [← h, ← Nat.xor_assoc, Nat.xor_self, Nat.zero_xor]
    rw [this, ga_x1]
  · intro h
    rw [h, ← ga_x1, ← Nat.xor_assoc, Nat.xor_self, Nat.zero_xor]
theorem ga_sB (fa sb tc : Nat → Nat) (n m : Nat) : ga_s fa sb tc n m ≤ 2 := by unfold ga_s; by_cases a : fa n = m <;> by_cases b : sb n = m <;> simp only [a, b, if_true, if_false] <;> omega
theorem ga_sI {fa sb tc : Nat → Nat} {n m m' : Nat} (h : m = fa n ∨ m = sb n ∨ m = tc n) (h' : m' = fa n ∨ m' = sb n ∨ m' = tc n) (e : ga_s fa sb tc n m = ga_s fa sb tc n m') : m = m' := by
  unfold ga_s at e
  by_cases a : fa n = m
  · rw [if_pos a] at e
    by_cases a' : fa n = m'
    · omega
    · rw [if_neg a'] at e
      by_cases b' : sb n = m'
      · rw [if_pos b'] at e; omega
      · rw [if_neg b'] at e; omega
  · rw [if_neg a] at e
    by_cases a' : fa n = m'
    · rw [if_pos a'] at e
      by_cases b : sb n = m
      · rw [if_pos b] at e; omega
      · rw [if_neg b] at e; omega
    · rw [if_neg a'] at e
      by_cases b : sb n = m
      · rw [if_pos b] at e
        by_cases b' : sb n = m'
        · omega
        · rw [if_neg b'] at e; omega
      · rw [if_neg b] at e
        by_cases b' : sb n = m'
        · rw [if_pos b'] at e; omega
        · omega
section
variable {fa sb tc : Nat → Nat} {n G : Nat}
theorem ga_t0 {q : Nat} (h : q < 2) : ga_t fa sb tc n q = q := if_pos h
theorem ga_tI {q : Nat} (h2 : 2 ≤ q) (h : q < 1000) : ga_t fa sb tc n q = 2 * (1 + 16 * ga_s fa sb tc n ((q - 2) / 32) + (q - 2) / 2 % 16) + q % 2 := by
  unfold ga_t
  rw [if_neg (by omega), if_pos h]
theorem ga_tG {q : Nat} (h : 1000 ≤ q) : ga_t fa sb tc n q = 2 * (50 + (q - 1000) / 2) + q % 2 := by
  unfold ga_t
  rw [if_neg (by omega), if_neg (by omega)]
theorem ga_tg (g : Nat) : ga_t fa sb tc n (1000 + 2 * g) = 2 * (50 + g) := by
  rw [ga_tG (by omega)]; omega
theorem ga_tn (q : Nat) : ga_t fa sb tc n (ga_n q) = ga_n (ga_t fa sb tc n q) := by
  by_cases h1 : q < 2
  · have : ga_n q < 2 := by unfold ga_n; split <;> omega
    rw [ga_t0 h1, ga_t0 this]
  by_cases h2 : q < 1000
  · have a : 2 ≤ ga_n q ∧ ga_n q < 1000 ∧ (ga_n q - 2) / 2 = (q - 2) / 2 := by unfold ga_n; split <;> omega
    rw [ga_tI (q := q) (by omega) h2, ga_tI a.1 a.2.1, show (ga_n q - 2) / 32 = (q - 2) / 32 by omega, a.2.2]
    have : ga_n q % 2 = 1 - q % 2 := by unfold ga_n; split <;> omega
    rw [this]
    generalize ga_s fa sb tc n ((q - 2) / 32) = s
    unfold ga_n
    split <;> omega
  · have a : 1000 ≤ ga_n q ∧ (ga_n q - 1000) / 2 = (q - 1000) / 2 := by unfold ga_n; split <;> omega
    rw [ga_tG a.1, ga_tG (q := q) (by omega), a.2]
    have : ga_n q % 2 = 1 - q % 2 := by unfold ga_n; split <;> omega
    rw [this]
    unfold ga_n
    split <;> omega
theorem ga_vn {q : Nat} (h : ga_v fa sb tc n G q) : ga_v fa sb tc n G (ga_n q) := by
  rcases h with h | ⟨h1, h2, h3⟩ | ⟨h1, h2⟩
  · left; unfold ga_n; split <;> omega
  · right; left
    have a : 2 ≤ ga_n q ∧ ga_n q < 1000 ∧ (ga_n q - 2) / 32 = (q - 2) / 32 := by unfold ga_n; split <;> omega
    rw [a.2.2]
    exact ⟨a.1, a.2.1, h3⟩
  · right; right; unfold ga_n; split <;> omega
theorem ga_vm {q G' : Nat} (h : ga_v fa sb tc n G q) (hG : G ≤ G') : ga_v fa sb tc n G' q := by
  rcases h with h | h | h
  · exact Or.inl h
  · exact Or.inr (Or.inl h)
  · exact Or.inr (Or.inr ⟨h.1, by omega⟩)
theorem ga_tB {q : Nat} (h : ga_v fa sb tc n G q) (hG : G ≤ 200) : ga_t fa sb tc n q < 500 := by
  have := ga_sB fa sb tc n ((q - 2) / 32)
  rcases h with h | ⟨h1, h2, h3⟩ | ⟨h1, h2⟩
  · rw [ga_t0 h]; omega
  · rw [ga_tI h1 h2]; omega
  · rw [ga_tG h1]; omega
theorem ga_qB {q : Nat} (h : ga_v fa sb tc n G q) (hG : G ≤ 200) : q < 1400 := by
  rcases h with h | ⟨h1, h2, h3⟩ | ⟨h1, h2⟩ <;> omega
theorem ga_inj {q q' G' : Nat} (h : ga_v fa sb tc n G q) (h' : ga_v fa sb tc n G' q') (e : ga_t fa sb tc n q = ga_t fa sb tc n q') : q = q' := by
  have b := ga_sB fa sb tc n ((q - 2) / 32)
  have b' := ga_sB fa sb tc n ((q' - 2) / 32)
  rcases h with h | ⟨h1, h2, h3⟩ | ⟨h1, h2⟩
  · rw [ga_t0 h] at e
    rcases h' with g | ⟨g1, g2, g3⟩ | ⟨g1, g2⟩
    · rw [ga_t0 g] at e; exact e
    · rw [ga_tI g1 g2] at e; omega
    · rw [ga_tG g1] at e; omega
  · rw [ga_tI h1 h2] at e
    rcases h' with g | ⟨g1, g2, g3⟩ | ⟨g1, g2⟩
    · rw [ga_t0 g] at e; omega
    · rw [ga_tI g1 g2] at e
      have es : ga_s fa sb tc n ((q - 2) / 32) = ga_s fa sb tc n ((q' - 2) / 32) := by omega
      have em := ga_sI h3 g3 es
      omega
    · rw [ga_tG g1] at e; omega
  · rw [ga_tG h1] at e
    rcases h' with g | ⟨g1, g2, g3⟩ | ⟨g1, g2⟩
    · rw [ga_t0 g] at e; omega
    · rw [ga_tI g1 g2] at e; omega
    · rw [ga_tG g1] at e; omega
theorem ga_ln (ly : Nat → Nat) (q : Nat) : ga_l ly (ga_n q) = ga_l ly q := by
  unfold ga_l
  by_cases h : q < 1000
  · have : ga_n q < 1000 := by unfold ga_n; split <;> omega
    rw [if_pos h, if_pos this]
  · have : ¬ ga_n q < 1000 ∧ (ga_n q - 1000) / 2 = (q - 1000) / 2 := by unfold ga_n; split <;> omega
    rw [if_neg h, if_neg this.1, this.2]
theorem ga_lm {ly ly' : Nat → Nat} {q : Nat} (h : ga_v fa sb tc n G q) (e : ∀ g, g < G → ly' g = ly g) : ga_l ly' q = ga_l ly q := by
  unfold ga_l
  by_cases c : q < 1000
  · rw [if_pos c, if_pos c]
  · rw [if_neg c, if_neg c]
    refine e _ ?_
    rcases h with h | ⟨h1, h2, h3⟩ | ⟨h1, h2⟩ <;> omega
end
/-- the gates of both sides -/
def ga_R (fa sb tc : Nat → Nat) (n G : Nat) (o1 o2 ly : Nat → Nat) (xlf xrt xlv yone ytwo ylv : Nat → Int32) : Prop :=
  (∀ g, g < G → yone g = nI (o1 g) ∧ ytwo g = nI (o2 g) ∧ ylv g = nI (ly g) ∧ xlv (50 + g) = nI (ly g) ∧ xlf g = nI (ga_i (ga_t fa sb tc n (o1 g)) (ga_t fa sb tc n (o2 g))) ∧ xrt g = nI (ga_m (ga_t fa sb tc n (o1 g)) (ga_t fa sb tc n (o2 g))) ∧ ga_v fa sb tc n g (o1 g) ∧ ga_v fa sb tc n g (o2 g) ∧ ly g = 1 + ga_m (ga_l ly (o1 g)) (ga_l ly (o2 g))) ∧
  (∀ i, i < 50 → xlv i = 0)
section
variable {st nd bu nx wk kc1 kc0 kc2 kc3 kc4 kc5 kc6 kc7 gi ad : Nat} {xad xga xto yad yts yga : Int32} {kd sb tc sg wd fa ww so rg ce nm xdn xsn xpr xcl ct nb sy vl pv pc gv dn wo pp yo wh wt wi tr tg cd ws : Nat → Nat} {gs xcd xws xon xgu xlf xrt xlv ybs ycs ywd ycd yws ygu yone ytwo ylv : Nat → Int32} {xtr : Nat → Int64}
variable {n G : Nat} {o1 o2 ly : Nat → Nat}
/-- the component's level of a literal -/
theorem ga_xl {q : Nat} (hR : ga_R fa sb tc n G o1 o2 ly xlf xrt xlv yone ytwo ylv) (h : ga_v fa sb tc n G q) : xlv (ga_t fa sb tc n q / 2) = nI (ga_l ly q) := by
  have b := ga_sB fa sb tc n ((q - 2) / 32)
  unfold ga_l
  rcases h with h | ⟨h1, h2, h3⟩ | ⟨h1, h2⟩
  · rw [ga_t0 h, if_pos (by omega)]
    exact hR.2 _ (by omega)
  · rw [ga_tI h1 h2, if_pos h2]
    exact hR.2 _ (by omega)
  · rw [ga_tG h1, if_neg (by omega), show (2 * (50 + (q - 1000) / 2) + q % 2) / 2 = 50 + (q - 1000) / 2 by omega]
    exact (hR.1 _ (by omega)).2.2.2.1
theorem yq_levelOf {post : Int32 → Prop} {q : Nat} (hR : ga_R fa sb tc n G o1 o2 ly xlf xrt xlv yone ytwo ylv) (h : ga_v fa sb tc n G q) (hG : G ≤ 200) (hp : post (nI (ga_l ly q))) : wpY_levelOf post (nI st, nI nd, nI bu, yad, nI wk, nI nx, nI kc1, nI kc0, nI kc2, nI kc3, nI kc4, nI kc5, nI kc6, nI kc7, yts, nI gi, yga, ar_N ww, ar_N rg, ar_N ce, gs, ar_N kd, ar_N fa, ybs, ycs, ar_N sg, ywd, ar_O so, ycd, yws, ar_N nb, ar_N sy, ar_N vl, ar_N pv, ar_N pc, ygu, ar_N gv, ar_N dn, ar_N wo, ar_N pp, ar_N yo, ar_N wh, ar_N wt, ar_N wi, ar_N tr, ar_N tg, yone, ytwo, ylv) (nI q) := by
  have hq := ga_qB h hG
  unfold ga_l at hp
  unfold wpY_levelOf
  dsimp only
  refine pk_le 1000 q (fun c => ?_) (fun c => ?_)
  · rw [if_neg (by omega)] at hp
    have hg : (q - 1000) / 2 < G := by
      rcases h with h | ⟨h1, h2, h3⟩ | ⟨h1, h2⟩ <;> omega
    rw [show (1000 : Int32) = nI 1000 from rfl, pk_sub c, show (2 : Int32) = nI 2 from rfl, pk_div (by omega) (by omega) (by omega)]
    refine ⟨by decide, vp_in_nI (by omega) (by omega), ?_⟩
    rw [nI_clamp (by omega), (hR.1 _ hg).2.2.1]
    exact hp
  · rw [if_pos c] at hp
    exact hp
/-- a new gate keeps the relation -/
theorem ga_new {a b : Nat} (hR : ga_R fa sb tc n G o1 o2 ly xlf xrt xlv yone ytwo ylv) (ha : ga_v fa sb tc n G a) (hb : ga_v fa sb tc n G b) :
    ga_R fa sb tc n (G + 1) (ar_u o1 G a) (ar_u o2 G b) (ar_u ly G (1 + ga_m (ga_l ly a) (ga_l ly b))) (upd xlf G (nI (ga_i (ga_t fa sb tc n a) (ga_t fa sb tc n b)))) (upd xrt G (nI (ga_m (ga_t fa sb tc n a) (ga_t fa sb tc n b)))) (upd xlv (50 + G) (nI (1 + ga_m (ga_l ly a) (ga_l ly b)))) (upd yone G (nI a)) (upd ytwo G (nI b)) (upd ylv G (nI (1 + ga_m (ga_l ly a) (ga_l ly b)))) := by
  have same : ∀ {q g : Nat}, g ≤ G → ga_v fa sb tc n g q → ga_l (ar_u ly G (1 + ga_m (ga_l ly a) (ga_l ly b))) q = ga_l ly q := by
    intro q g hg hq
    exact ga_lm hq (fun i hi => ar_un (by omega))
  refine ⟨fun g hg => ?_, fun i hi => ?_⟩
  · by_cases e : g = G
    · subst e
      rw [ar_us, ar_us, ar_us, pk_us, pk_us, pk_us, pk_us, pk_us, pk_us, same (Nat.le_refl _) ha, same (Nat.le_refl _) hb]
      exact ⟨rfl, rfl, rfl, rfl, rfl, rfl, ha, hb, rfl⟩
    · obtain ⟨r1, r2, r3, r4, r5, r6, r7, r8, r9⟩ := hR.1 g (by omega)
      rw [ar_un e, ar_un e, ar_un e, pk_un e, pk_un e, pk_un e, pk_un e, pk_un e, pk_un (show 50 + g ≠ 50 + G by omega), same (by omega) r7, same (by omega) r8]
      exact ⟨r1, r2, r3, r4, r5, r6, r7, r8, r9⟩
  · rw [pk_un (by omega)]
    exact hR.2 i hi
theorem ga_pair {a b c d : Nat} {G1 G2 : Nat} (ha : ga_v fa sb tc n G1 a) (hb : ga_v fa sb tc n G1 b) (hc : ga_v fa sb tc n G2 c) (hd : ga_v fa sb tc n G2 d) (e1 : ga_i (ga_t fa sb tc n a) (ga_t fa sb tc n b) = ga_i (ga_t fa sb tc n c) (ga_t fa sb tc n d)) (e2 : ga_m (ga_t fa sb tc n a) (ga_t fa sb tc n b) = ga_m (ga_t fa sb tc n c) (ga_t fa sb tc n d)) : (a = c ∧ b = d) ∨ (a = d ∧ b = c) := by
  have : (ga_t fa sb tc n a = ga_t fa sb tc n c ∧ ga_t fa sb tc n b = ga_t fa sb tc n d) ∨ (ga_t fa sb tc n a = ga_t fa sb tc n d ∧ ga_t fa sb tc n b = ga_t fa sb tc n c) := by
    unfold ga_i ga_m at *
    generalize ga_t fa sb tc n a = x at *
    generalize ga_t fa sb tc n b = y at *
    generalize ga_t fa sb tc n c = z at *
    generalize ga_t fa sb tc n d = w at *
    by_cases p : x ≤ y <;> by_cases q : z ≤ w <;> simp only [p, q, if_true, if_false] at e1 e2 <;> omega
  rcases this with ⟨h1, h2⟩ | ⟨h1, h2⟩
  · exact Or.inl ⟨ga_inj ha hc h1, ga_inj hb hd h2⟩
  · exact Or.inr ⟨ga_inj ha hd h1, ga_inj hb hc h2⟩
/-- the list of gates is gone through -/
theorem pr_seek {a b L : Nat} (hR : ga_R fa sb tc n G o1 o2 ly xlf xrt xlv yone ytwo ylv) (hG : G < 200) (ha : ga_v fa sb tc n G a) (hb : ga_v fa sb tc n G b) (la : ga_l ly a ≤ L) (lb : ga_l ly b ≤ L) (hL : L < 127) : ∀ d g, g + d = G →
    ∃ (c G' : Nat) (o1' o2' ly' : Nat → Nat) (xlf' xrt' xlv' yone' ytwo' ylv' : Nat → Int32), ga_R fa sb tc n G' o1' o2' ly' xlf' xrt' xlv' yone' ytwo' ylv' ∧ (∀ g, g < G → ly' g = ly g) ∧ G ≤ G' ∧ ga_v fa sb tc n G' c ∧ G' ≤ G + 1 ∧ ga_l ly' c ≤ L + 1 ∧ (∀ poss : Int32 → SX → Prop, poss (nI (ga_t fa sb tc n c)) (nI st, nI nd, nI bu, xad, nI nx, nI G', xto, ar_N kd, ar_N sb, ar_N tc, ar_N sg, ar_N wd, ar_N fa, ar_N ww, gs, ar_O so, xcd, xws, ar_N rg, ar_N ce, ar_O nm, xon, xgu, ar_N xdn, ar_N xsn, ar_N xpr, ar_N xcl, xtr, ar_N ct, xlf', xrt', xlv') → wX_and_54 poss (nI (ga_i (ga_t fa sb tc n a) (ga_t fa sb tc n b))) (nI (ga_m (ga_t fa sb tc n a) (ga_t fa sb tc n b))) (nI st) (nI nd) (nI bu) xad (nI nx) (nI G) xto (ar_N kd) (ar_N sb) (ar_N tc) (ar_N sg) (ar_N wd) (ar_N fa) (ar_N ww) gs (ar_O so) xcd xws (ar_N rg) (ar_N ce) (ar_O nm) xon xgu (ar_N xdn) (ar_N xsn) (ar_N xpr) (ar_N xcl) xtr (ar_N ct) xlf xrt xlv (d + 1) (nI g)) ∧ (∀ pos2 : Int32 → SY → Prop, pos2 (nI c) (nI st, nI nd, nI bu, yad, nI wk, nI nx, nI kc1, nI kc0, nI kc2, nI kc3, nI kc4, nI kc5, nI kc6, nI kc7, yts, nI gi, nI G', ar_N ww, ar_N rg, ar_N ce, gs, ar_N kd, ar_N fa, ybs, ycs, ar_N sg, ywd, ar_O so, ycd, yws, ar_N nb, ar_N sy, ar_N vl, ar_N pv, ar_N pc, ygu, ar_N gv, ar_N dn, ar_N wo, ar_N pp, ar_N yo, ar_N wh, ar_N wt, ar_N wi, ar_N tr, ar_N tg, yone', ytwo', ylv') → wY_and_38 pos2 (nI a) (nI b) (nI st) (nI nd) (nI bu) yad (nI wk) (nI nx) (nI kc1) (nI kc0) (nI kc2) (nI kc3) (nI kc4) (nI kc5) (nI kc6) (nI kc7) yts (nI gi) (nI G) (ar_N ww) (ar_N rg) (ar_N ce) gs (ar_N kd) (ar_N fa) ybs ycs (ar_N sg) ywd (ar_O so) ycd yws (ar_N nb) (ar_N sy) (ar_N vl) (ar_N pv) (ar_N pc) ygu (ar_N gv) (ar_N dn) (ar_N wo) (ar_N pp) (ar_N yo) (ar_N wh) (ar_N wt) (ar_N wi) (ar_N tr) (ar_N tg) yone ytwo ylv (d + 1) (nI g)) := by
  have ta := ga_tB ha (by omega)
  have tb := ga_tB hb (by omega)
  have qa := ga_qB ha (by omega)
  have qb := ga_qB hb (by omega)
  have mi : ga_i (ga_t fa sb tc n a) (ga_t fa sb tc n b) < 500 ∧ ga_m (ga_t fa sb tc n a) (ga_t fa sb tc n b) < 500 := by unfold ga_i ga_m; split <;> omega
  have hm := ga_mL (ga_l ly a) (ga_l ly b)
  intro d
  induction d with
  | zero =>
    intro g hg
    have e : g = G := by omega
    subst e
    refine ⟨1000 + 2 * g, g + 1, _, _, _, _, _, _, _, _, _, ga_new hR ha hb, fun i hi => ar_un (by omega), by omega, Or.inr (Or.inr ⟨by omega, by omega⟩), Nat.le_refl _, ?_, fun poss hp => ?_, fun pos2 hp => ?_⟩
    · unfold ga_l
      rw [if_neg (by omega), show (1000 + 2 * g - 1000) / 2 = g by omega, ar_us]
      show 1 + ga_m (ga_l ly a) (ga_l ly b) ≤ L + 1
      omega
    · rw [ga_tg] at hp
      rw [wX_and_54]
      refine br_t (nI_le (by omega) (by omega)) ⟨vp_in_nI (by omega) (by omega), fun y ey => ⟨vp_in_nI (by omega) (by omega), fun z ez => ⟨by decide, ?_⟩⟩⟩
      rw [nI_clamp (by omega), ar_sh _ (by omega)] at ey ez
      rw [show (2 : Int32) = nI 2 from rfl, pk_div (by omega) (by omega) (by omega), pk_div (by omega) (by omega) (by omega), nI_clamp (by omega), nI_clamp (by omega)]
      refine ⟨vp_in_nI (by omega) (by omega), by decide, vp_in_nI (by omega) (by omega), ?_⟩
      -- the two levels
      have lv : ∃ u v : Nat, xlv (ga_i (ga_t fa sb tc n a) (ga_t fa sb tc n b) / 2) = nI u ∧ xlv (ga_m (ga_t fa sb tc n a) (ga_t fa sb tc n b) / 2) = nI v ∧ u ≤ L ∧ v ≤ L ∧ (if u ≤ v then v else u) = ga_m (ga_l ly a) (ga_l ly b) := by
        unfold ga_i ga_m
        by_cases c : ga_t fa sb tc n a ≤ ga_t fa sb tc n b
        · simp only [c, if_true]
          exact ⟨_, _, ga_xl hR ha, ga_xl hR hb, la, lb, rfl⟩
        · simp only [c, if_false]
          refine ⟨_, _, ga_xl hR hb, ga_xl hR ha, lb, la, ?_⟩
          split <;> split <;> omega
      obtain ⟨u, v, e1, e2, u1, v1, uv⟩ := lv
      rw [e1, e2]
      refine xq_greater (by omega) (by omega) ?_
      rw [uv, show (50 : Int32) + nI g = nI (50 + g) from ar_add 50 g]
      refine ⟨vp_in_nI (by omega) (by omega), fun w ew x ex => ?_⟩
      rw [nI_clamp (by omega), show (1 : Int32) + nI (ga_m (ga_l ly a) (ga_l ly b)) = nI (1 + ga_m (ga_l ly a) (ga_l ly b)) from ar_add 1 _, ar_by _ (by omega)] at ew
      rw [nI_1] at ex
      rw [ey, ez, ew, ex, show nI 2 * nI (50 + g) = nI (2 * (50 + g)) from ar_mul 2 _]
      exact hp
    · have hR2 : ga_R fa sb tc n g o1 o2 ly xlf xrt xlv (upd yone g (nI a)) (upd ytwo g (nI b)) ylv := by
        refine ⟨fun i hi => ?_, hR.2⟩
        rw [pk_un (show i ≠ g by omega), pk_un (show i ≠ g by omega)]
        exact hR.1 i hi
      rw [wY_and_38]
      refine br_t (nI_le (by omega) (by omega)) ⟨vp_in_nI (by omega) (by omega), fun y ey => ⟨vp_in_nI (by omega) (by omega), fun z ez => ?_⟩⟩
      rw [nI_clamp (by omega)] at ey ez
      rw [ey, ez]
      have fin : ∀ l, l = ga_m (ga_l ly a) (ga_l ly b) → wY_and_153 pos2 (nI l) (nI g) (nI st) (nI nd) (nI bu) yad (nI wk) (nI nx) (nI kc1) (nI kc0) (nI kc2) (nI kc3) (nI kc4) (nI kc5) (nI kc6) (nI kc7) yts (nI gi) (nI g) (ar_N ww) (ar_N rg) (ar_N ce) gs (ar_N kd) (ar_N fa) ybs ycs (ar_N sg) ywd (ar_O so) ycd yws (ar_N nb) (ar_N sy) (ar_N vl) (ar_N pv) (ar_N pc) ygu (ar_N gv) (ar_N dn) (ar_N wo) (ar_N pp) (ar_N yo) (ar_N wh) (ar_N wt) (ar_N wi) (ar_N tr) (ar_N tg) (upd yone g (nI a)) (upd ytwo g (nI b)) ylv := by
        intro l hl
        unfold wY_and_153
        refine ⟨vp_in_nI (by omega) (by omega), fun w ew x ex => ?_⟩
        rw [nI_clamp (by omega), nI_1, hl, Nat.add_comm] at ew
        rw [nI_1] at ex
        rw [ew, ex, show (1000 : Int32) + 2 * nI g = nI (1000 + 2 * g) by rw [show (2 : Int32) = nI 2 from rfl, show (1000 : Int32) = nI 1000 from rfl, ar_mul, ar_add]]
        exact hp
      refine yq_levelOf hR2 ha (by omega) (yq_levelOf hR2 hb (by omega) ?_)
      refine pk_le (ga_l ly a) (ga_l ly b) (fun c => fin _ ?_) (fun c => fin _ ?_)
      · unfold ga_m; rw [if_pos c]
      · unfold ga_m; rw [if_neg (by omega)]
  | succ d ih =>
    intro g hg
    obtain ⟨r1, r2, r3, r4, r5, r6, r7, r8, r9⟩ := hR.1 g (by omega)
    have t7 := ga_tB r7 (by omega)
    have t8 := ga_tB r8 (by omega)
    have q7 := ga_qB r7 (by omega)
    have q8 := ga_qB r8 (by omega)
    have mi2 : ga_i (ga_t fa sb tc n (o1 g)) (ga_t fa sb tc n (o2 g)) < 500 ∧ ga_m (ga_t fa sb tc n (o1 g)) (ga_t fa sb tc n (o2 g)) < 500 := by unfold ga_i ga_m; split <;> omega
    have bx := vp_in_nI (show g < 200 by omega) (show 200 < 2 ^ 31 by omega)
    have by' := vp_in_nI (show g < 300 by omega) (show 300 < 2 ^ 31 by omega)
    by_cases hit : (o1 g = a ∧ o2 g = b) ∨ (o1 g = b ∧ o2 g = a)
    · have ei : ga_i (ga_t fa sb tc n (o1 g)) (ga_t fa sb tc n (o2 g)) = ga_i (ga_t fa sb tc n a) (ga_t fa sb tc n b) ∧ ga_m (ga_t fa sb tc n (o1 g)) (ga_t fa sb tc n (o2 g)) = ga_m (ga_t fa sb tc n a) (ga_t fa sb tc n b) ∧ ga_m (ga_l ly (o1 g)) (ga_l ly (o2 g)) = ga_m (ga_l ly a) (ga_l ly b) := by
        rcases hit with ⟨h1, h2⟩ | ⟨h1, h2⟩
        · rw [h1, h2]; exact ⟨rfl, rfl, rfl⟩
        · rw [h1, h2]; exact ⟨ga_iC _ _, ga_mC _ _, ga_mC _ _⟩
      refine ⟨1000 + 2 * g, G, o1, o2, ly, xlf, xrt, xlv, yone, ytwo, ylv, hR, fun _ _ => rfl, Nat.le_refl _, Or.inr (Or.inr ⟨by omega, by omega⟩), by omega, ?_, fun poss hp => ?_, fun pos2 hp => ?_⟩
      · unfold ga_l
        rw [if_neg (by omega), show (1000 + 2 * g - 1000) / 2 = g by omega, r9, ei.2.2]
        omega
      · rw [ga_tg] at hp
        rw [wX_and_54]
        refine br_f (nI_ge (by omega) (by omega)) ⟨bx, ?_⟩
        rw [nI_clamp (by omega), r5, r6, ei.1, ei.2.1]
        refine br_t rfl ⟨bx, br_t rfl ?_⟩
        rw [show (2 : Int32) * (50 + nI g) = nI (2 * (50 + g)) by rw [show (2 : Int32) = nI 2 from rfl, show (50 : Int32) = nI 50 from rfl, ar_add, ar_mul]]
        exact hp
      · have e : (1000 : Int32) + 2 * nI g = nI (1000 + 2 * g) := by rw [show (2 : Int32) = nI 2 from rfl, show (1000 : Int32) = nI 1000 from rfl, ar_mul, ar_add]
        rw [← e] at hp
        have two : wY_and_66 pos2 (wY_and_38 pos2 (nI a) (nI b) (nI st) (nI nd) (nI bu) yad (nI wk) (nI nx) (nI kc1) (nI kc0) (nI kc2) (nI kc3) (nI kc4) (nI kc5) (nI kc6) (nI kc7) yts (nI gi) (nI G) (ar_N ww) (ar_N rg) (ar_N ce) gs (ar_N kd) (ar_N fa) ybs ycs (ar_N sg) ywd (ar_O so) ycd yws (ar_N nb) (ar_N sy) (ar_N vl) (ar_N pv) (ar_N pc) ygu (ar_N gv) (ar_N dn) (ar_N wo) (ar_N pp) (ar_N yo) (ar_N wh) (ar_N wt) (ar_N wi) (ar_N tr) (ar_N tg) yone ytwo ylv (d + 1)) (nI a) (nI b) (nI g) (nI st) (nI nd) (nI bu) yad (nI wk) (nI nx) (nI kc1) (nI kc0) (nI kc2) (nI kc3) (nI kc4) (nI kc5) (nI kc6) (nI kc7) yts (nI gi) (nI G) (ar_N ww) (ar_N rg) (ar_N ce) gs (ar_N kd) (ar_N fa) ybs ycs (ar_N sg) ywd (ar_O so) ycd yws (ar_N nb) (ar_N sy) (ar_N vl) (ar_N pv) (ar_N pc) ygu (ar_N gv) (ar_N dn) (ar_N wo) (ar_N pp) (ar_N yo) (ar_N wh) (ar_N wt) (ar_N wi) (ar_N tr) (ar_N tg) yone ytwo ylv ∨ (o1 g = a ∧ o2 g = b) := by
          rcases hit with h | ⟨h1, h2⟩
          · exact Or.inr h
          · left
            unfold wY_and_66
            rw [nI_clamp (by omega), r1, r2, h1, h2]
            exact ⟨by', br_t rfl ⟨by', br_t rfl hp⟩⟩
        rw [wY_and_38]
        refine br_f (nI_ge (by omega) (by omega)) ⟨by', ?_⟩
        rw [nI_clamp (by omega), r1, r2]
        rcases two with two | ⟨h1, h2⟩
        · exact br_c (fun _ => ⟨by', br_c (fun _ => hp) (fun _ => two)⟩) (fun _ => two)
        · rw [h1, h2]
          exact br_t rfl ⟨by', br_t rfl hp⟩
    · obtain ⟨c, G', o1', o2', ly', xlf', xrt', xlv', yone', ytwo', ylv', i1, i2, i3, i4, i5, i6, i7, i8⟩ := ih (g + 1) (by omega)
      refine ⟨c, G', o1', o2', ly', xlf', xrt', xlv', yone', ytwo', ylv', i1, i2, i3, i4, i5, i6, fun poss hp => ?_, fun pos2 hp => ?_⟩
      · have k : ∀ w : Int32, w = nI g + 1 → wX_and_54 poss (nI (ga_i (ga_t fa sb tc n a) (ga_t fa sb tc n b))) (nI (ga_m (ga_t fa sb tc n a) (ga_t fa sb tc n b))) (nI st) (nI nd) (nI bu) xad (nI nx) (nI G) xto (ar_N kd) (ar_N sb) (ar_N tc) (ar_N sg) (ar_N wd) (ar_N fa) (ar_N ww) gs (ar_O so) xcd xws (ar_N rg) (ar_N ce) (ar_O nm) xon xgu (ar_N xdn) (ar_N xsn) (ar_N xpr) (ar_N xcl) xtr (ar_N ct) xlf xrt xlv (d + 1) w := fun w ew => by rw [ew, nI_1]; exact i7 poss hp
        rw [wX_and_54]
        refine br_f (nI_ge (by omega) (by omega)) ⟨bx, ?_⟩
        rw [nI_clamp (by omega), r5, r6]
        refine pk_eq (ga_i (ga_t fa sb tc n (o1 g)) (ga_t fa sb tc n (o2 g))) (ga_i (ga_t fa sb tc n a) (ga_t fa sb tc n b)) (fun e1 => ⟨bx, ?_⟩) (fun _ => k)
        refine pk_eq (ga_m (ga_t fa sb tc n (o1 g)) (ga_t fa sb tc n (o2 g))) (ga_m (ga_t fa sb tc n a) (ga_t fa sb tc n b)) (fun e2 => ?_) (fun _ => k)
        exact absurd (ga_pair r7 r8 ha hb e1 e2) hit
      · have k : ∀ w : Int32, w = nI g + 1 → wY_and_38 pos2 (nI a) (nI b) (nI st) (nI nd) (nI bu) yad (nI wk) (nI nx) (nI kc1) (nI kc0) (nI kc2) (nI kc3) (nI kc4) (nI kc5) (nI kc6) (nI kc7) yts (nI gi) (nI G) (ar_N ww) (ar_N rg) (ar_N ce) gs (ar_N kd) (ar_N fa) ybs ycs (ar_N sg) ywd (ar_O so) ycd yws (ar_N nb) (ar_N sy) (ar_N vl) (ar_N pv) (ar_N pc) ygu (ar_N gv) (ar_N dn) (ar_N wo) (ar_N pp) (ar_N yo) (ar_N wh) (ar_N wt) (ar_N wi) (ar_N tr) (ar_N tg) yone ytwo ylv (d + 1) w := fun w ew => by rw [ew, nI_1]; exact i8 pos2 hp
        have two : wY_and_66 pos2 (wY_and_38 pos2 (nI a) (nI b) (nI st) (nI nd) (nI bu) yad (nI wk) (nI nx) (nI kc1) (nI kc0) (nI kc2) (nI kc3) (nI kc4) (nI kc5) (nI kc6) (nI kc7) yts (nI gi) (nI G) (ar_N ww) (ar_N rg) (ar_N ce) gs (ar_N kd) (ar_N fa) ybs ycs (ar_N sg) ywd (ar_O so) ycd yws (ar_N nb) (ar_N sy) (ar_N vl) (ar_N pv) (ar_N pc) ygu (ar_N gv) (ar_N dn) (ar_N wo) (ar_N pp) (ar_N yo) (ar_N wh) (ar_N wt) (ar_N wi) (ar_N tr) (ar_N tg) yone ytwo ylv (d + 1)) (nI a) (nI b) (nI g) (nI st) (nI nd) (nI bu) yad (nI wk) (nI nx) (nI kc1) (nI kc0) (nI kc2) (nI kc3) (nI kc4) (nI kc5) (nI kc6) (nI kc7) yts (nI gi) (nI G) (ar_N ww) (ar_N rg) (ar_N ce) gs (ar_N kd) (ar_N fa) ybs ycs (ar_N sg) ywd (ar_O so) ycd yws (ar_N nb) (ar_N sy) (ar_N vl) (ar_N pv) (ar_N pc) ygu (ar_N gv) (ar_N dn) (ar_N wo) (ar_N pp) (ar_N yo) (ar_N wh) (ar_N wt) (ar_N wi) (ar_N tr) (ar_N tg) yone ytwo ylv := by
          unfold wY_and_66
          rw [nI_clamp (by omega), r1, r2]
          exact ⟨by', pk_eq (o1 g) b (fun e1 => ⟨by', pk_eq (o2 g) a (fun e2 => absurd (Or.inr ⟨e1, e2⟩) hit) (fun _ => k)⟩) (fun _ => k)⟩
        rw [wY_and_38]
        refine br_f (nI_ge (by omega) (by omega)) ⟨by', ?_⟩
        rw [nI_clamp (by omega), r1, r2]
        exact pk_eq (o1 g) a (fun e1 => ⟨by', pk_eq (o2 g) b (fun e2 => absurd (Or.inl ⟨e1, e2⟩) hit) (fun _ => two)⟩) (fun _ => two)
end
end
section
/-! and, or, xor; bits; levels -/
section
variable {st nd bu nx wk kc1 kc0 kc2 kc3 kc4 kc5 kc6 kc7 gi ad : Nat} {xad xga xto yad yts yga : Int32} {kd sb tc sg wd fa ww so rg ce nm xdn xsn xpr xcl ct nb sy vl pv pc gv dn wo pp yo wh wt wi tr tg cd ws : Nat → Nat} {gs xcd xws xon xgu xlf xrt xlv ybs ycs ywd ycd yws ygu yone ytwo ylv : Nat → Int32} {xtr : Nat → Int64}
variable {n G : Nat} {o1 o2 ly : Nat → Nat} {a b L : Nat}
theorem ga_x1I (q : Nat) : nI q ^^^ 1 = nI (ga_n q) := by
  rw [show (1 : Int32) = nI 1 from rfl, nx_xor, ga_x1]
theorem ga_t1I (q : Nat) : nI (ga_t fa sb tc n q) ^^^ 1 = nI (ga_t fa sb tc n (ga_n q)) := by rw [ga_x1I, ga_tn]
theorem pr_and (hR : ga_R fa sb tc n G o1 o2 ly xlf xrt xlv yone ytwo ylv) (ha : ga_v fa sb tc n G a) (hb : ga_v fa sb tc n G b) (la : ga_l ly a ≤ L) (lb : ga_l ly b ≤ L) (hL : L < 127) (hG : G < 200) : ∃ (c G' : Nat) (o1' o2' ly' : Nat → Nat) (xlf' xrt' xlv' yone' ytwo' ylv' : Nat → Int32), ga_R fa sb tc n G' o1' o2' ly' xlf' xrt' xlv' yone' ytwo' ylv' ∧ (∀ g, g < G → ly' g = ly g) ∧ G ≤ G' ∧ ga_v fa sb tc n G' c ∧ G' ≤ G + 1 ∧ ga_l ly' c ≤ L + 1 ∧
    (∀ poss : Int32 → SX → Prop, poss (nI (ga_t fa sb tc n c)) (nI st, nI nd, nI bu, xad, nI nx, nI G', xto, ar_N kd, ar_N sb, ar_N tc, ar_N sg, ar_N wd, ar_N fa, ar_N ww, gs, ar_O so, xcd, xws, ar_N rg, ar_N ce, ar_O nm, xon, xgu, ar_N xdn, ar_N xsn, ar_N xpr, ar_N xcl, xtr, ar_N ct, xlf', xrt', xlv') → wpX_and poss (nI st, nI nd, nI bu, xad, nI nx, nI G, xto, ar_N kd, ar_N sb, ar_N tc, ar_N sg, ar_N wd, ar_N fa, ar_N ww, gs, ar_O so, xcd, xws, ar_N rg, ar_N ce, ar_O nm, xon, xgu, ar_N xdn, ar_N xsn, ar_N xpr, ar_N xcl, xtr, ar_N ct, xlf, xrt, xlv) (nI (ga_t fa sb tc n a)) (nI (ga_t fa sb tc n b))) ∧ (∀ pos2 : Int32 → SY → Prop, pos2 (nI c) (nI st, nI nd, nI bu, yad, nI wk, nI nx, nI kc1, nI kc0, nI kc2, nI kc3, nI kc4, nI kc5, nI kc6, nI kc7, yts, nI gi, nI G', ar_N ww, ar_N rg, ar_N ce, gs, ar_N kd, ar_N fa, ybs, ycs, ar_N sg, ywd, ar_O so, ycd, yws, ar_N nb, ar_N sy, ar_N vl, ar_N pv, ar_N pc, ygu, ar_N gv, ar_N dn, ar_N wo, ar_N pp, ar_N yo, ar_N wh, ar_N wt, ar_N wi, ar_N tr, ar_N tg, yone', ytwo', ylv') → wpY_and pos2 (nI st, nI nd, nI bu, yad, nI wk, nI nx, nI kc1, nI kc0, nI kc2, nI kc3, nI kc4, nI kc5, nI kc6, nI kc7, yts, nI gi, nI G, ar_N ww, ar_N rg, ar_N ce, gs, ar_N kd, ar_N fa, ybs, ycs, ar_N sg, ywd, ar_O so, ycd, yws, ar_N nb, ar_N sy, ar_N vl, ar_N pv, ar_N pc, ygu, ar_N gv, ar_N dn, ar_N wo, ar_N pp, ar_N yo, ar_N wh, ar_N wt, ar_N wi, ar_N tr, ar_N tg, yone, ytwo, ylv) (nI a) (nI b)) := by
  have ta := ga_tB ha (by omega)
  have tb := ga_tB hb (by omega)
  have qa := ga_qB ha (by omega)
  have qb := ga_qB hb (by omega)
  have t0 : ∀ {q G}, ga_v fa sb tc n G q → (ga_t fa sb tc n q = 0 ↔ q = 0) := fun h => ⟨fun e => ga_inj h (G' := 0) (q' := 0) (Or.inl (by omega)) (by rw [e]; rfl), fun e => by rw [e]; rfl⟩
  have t1 : ∀ {q G}, ga_v fa sb tc n G q → (ga_t fa sb tc n q = 1 ↔ q = 1) := fun h => ⟨fun e => ga_inj h (G' := 0) (q' := 1) (Or.inl (by omega)) (by rw [e]; rfl), fun e => by rw [e]; rfl⟩
  have hX : ∀ poss : Int32 → SX → Prop, wX_and_21 poss (nI (ga_i (ga_t fa sb tc n a) (ga_t fa sb tc n b))) (nI (ga_m (ga_t fa sb tc n a) (ga_t fa sb tc n b))) (nI st) (nI nd) (nI bu) xad (nI nx) (nI G) xto (ar_N kd) (ar_N sb) (ar_N tc) (ar_N sg) (ar_N wd) (ar_N fa) (ar_N ww) gs (ar_O so) xcd xws (ar_N rg) (ar_N ce) (ar_O nm) xon xgu (ar_N xdn) (ar_N xsn) (ar_N xpr) (ar_N xcl) xtr (ar_N ct) xlf xrt xlv → wpX_and poss (nI st, nI nd, nI bu, xad, nI nx, nI G, xto, ar_N kd, ar_N sb, ar_N tc, ar_N sg, ar_N wd, ar_N fa, ar_N ww, gs, ar_O so, xcd, xws, ar_N rg, ar_N ce, ar_O nm, xon, xgu, ar_N xdn, ar_N xsn, ar_N xpr, ar_N xcl, xtr, ar_N ct, xlf, xrt, xlv) (nI (ga_t fa sb tc n a)) (nI (ga_t fa sb tc n b)) := by
    intro poss hp
    unfold wpX_and
    dsimp only
    refine pk_le (ga_t fa sb tc n b) (ga_t fa sb tc n a) (fun q => ?_) (fun q => ?_)
    · unfold wX_and_10
      refine br_t (nI_le q (by omega)) ?_
      rw [ga_iC, ga_mC] at hp
      unfold ga_i ga_m at hp
      rw [if_pos q, if_pos q] at hp
      exact hp
    · unfold wX_and_10
      refine br_f (nI_ge q (by omega)) ?_
      unfold ga_i ga_m at hp
      rw [if_pos (by omega), if_pos (by omega)] at hp
      exact hp
  have mi : ga_i (ga_t fa sb tc n a) (ga_t fa sb tc n b) < 500 ∧ ga_m (ga_t fa sb tc n a) (ga_t fa sb tc n b) < 500 := by unfold ga_i ga_m; split <;> omega
  -- a known answer
  have known : ∀ c, ga_v fa sb tc n G c → ga_l ly c ≤ L + 1 → (∀ poss : Int32 → SX → Prop, poss (nI (ga_t fa sb tc n c)) (nI st, nI nd, nI bu, xad, nI nx, nI G, xto, ar_N kd, ar_N sb, ar_N tc, ar_N sg, ar_N wd, ar_N fa, ar_N ww, gs, ar_O so, xcd, xws, ar_N rg, ar_N ce, ar_O nm, xon, xgu, ar_N xdn, ar_N xsn, ar_N xpr, ar_N xcl, xtr, ar_N ct, xlf, xrt, xlv) → wX_and_21 poss (nI (ga_i (ga_t fa sb tc n a) (ga_t fa sb tc n b))) (nI (ga_m (ga_t fa sb tc n a) (ga_t fa sb tc n b))) (nI st) (nI nd) (nI bu) xad (nI nx) (nI G) xto (ar_N kd) (ar_N sb) (ar_N tc) (ar_N sg) (ar_N wd) (ar_N fa) (ar_N ww) gs (ar_O so) xcd xws (ar_N rg) (ar_N ce) (ar_O nm) xon xgu (ar_N xdn) (ar_N xsn) (ar_N xpr) (ar_N xcl) xtr (ar_N ct) xlf xrt xlv) → (∀ pos2 : Int32 → SY → Prop, pos2 (nI c) (nI st, nI nd, nI bu, yad, nI wk, nI nx, nI kc1, nI kc0, nI kc2, nI kc3, nI kc4, nI kc5, nI kc6, nI kc7, yts, nI gi, nI G, ar_N ww, ar_N rg, ar_N ce, gs, ar_N kd, ar_N fa, ybs, ycs, ar_N sg, ywd, ar_O so, ycd, yws, ar_N nb, ar_N sy, ar_N vl, ar_N pv, ar_N pc, ygu, ar_N gv, ar_N dn, ar_N wo, ar_N pp, ar_N yo, ar_N wh, ar_N wt, ar_N wi, ar_N tr, ar_N tg, yone, ytwo, ylv) → wpY_and pos2 (nI st, nI nd, nI bu, yad, nI wk, nI nx, nI kc1, nI kc0, nI kc2, nI kc3, nI kc4, nI kc5, nI kc6, nI kc7, yts, nI gi, nI G, ar_N ww, ar_N rg, ar_N ce, gs, ar_N kd, ar_N fa, ybs, ycs, ar_N sg, ywd, ar_O so, ycd, yws, ar_N nb, ar_N sy, ar_N vl, ar_N pv, ar_N pc, ygu, ar_N gv, ar_N dn, ar_N wo, ar_N pp, ar_N yo, ar_N wh, ar_N wt, ar_N wi, ar_N tr, ar_N tg, yone, ytwo, ylv) (nI a) (nI b)) → ∃ (c G' : Nat) (o1' o2' ly' : Nat → Nat) (xlf' xrt' xlv' yone' ytwo' ylv' : Nat → Int32), ga_R fa sb tc n G' o1' o2' ly' xlf' xrt' xlv' yone' ytwo' ylv' ∧ (∀ g, g < G → ly' g = ly g) ∧ G ≤ G' ∧ ga_v fa sb tc n G' c ∧ G' ≤ G + 1 ∧ ga_l ly' c ≤ L + 1 ∧
    (∀ poss : Int32 → SX → Prop, poss (nI (ga_t fa sb tc n c)) (nI st, nI nd, nI bu, xad, nI nx, nI G', xto, ar_N kd, ar_N sb, ar_N tc, ar_N sg, ar_N wd, ar_N fa, ar_N ww, gs, ar_O so, xcd, xws, ar_N rg, ar_N ce, ar_O nm, xon, xgu, ar_N xdn, ar_N xsn, ar_N xpr, ar_N xcl, xtr, ar_N ct, xlf', xrt', xlv') → wpX_and poss (nI st, nI nd, nI bu, xad, nI nx, nI G, xto, ar_N kd, ar_N sb, ar_N tc, ar_N sg, ar_N wd, ar_N fa, ar_N ww, gs, ar_O so, xcd, xws, ar_N rg, ar_N ce, ar_O nm, xon, xgu, ar_N xdn, ar_N xsn, ar_N xpr, ar_N xcl, xtr, ar_N ct, xlf, xrt, xlv) (nI (ga_t fa sb tc n a)) (nI (ga_t fa sb tc n b))) ∧ (∀ pos2 : Int32 → SY → Prop, pos2 (nI c) (nI st, nI nd, nI bu, yad, nI wk, nI nx, nI kc1, nI kc0, nI kc2, nI kc3, nI kc4, nI kc5, nI kc6, nI kc7, yts, nI gi, nI G', ar_N ww, ar_N rg, ar_N ce, gs, ar_N kd, ar_N fa, ybs, ycs, ar_N sg, ywd, ar_O so, ycd, yws, ar_N nb, ar_N sy, ar_N vl, ar_N pv, ar_N pc, ygu, ar_N gv, ar_N dn, ar_N wo, ar_N pp, ar_N yo, ar_N wh, ar_N wt, ar_N wi, ar_N tr, ar_N tg, yone', ytwo', ylv') → wpY_and pos2 (nI st, nI nd, nI bu, yad, nI wk, nI nx, nI kc1, nI kc0, nI kc2, nI kc3, nI kc4, nI kc5, nI kc6, nI kc7, yts, nI gi, nI G, ar_N ww, ar_N rg, ar_N ce, gs, ar_N kd, ar_N fa, ybs, ycs, ar_N sg, ywd, ar_O so, ycd, yws, ar_N nb, ar_N sy, ar_N vl, ar_N pv, ar_N pc, ygu, ar_N gv, ar_N dn, ar_N wo, ar_N pp, ar_N yo, ar_N wh, ar_N wt, ar_N wi, ar_N tr, ar_N tg, yone, ytwo, ylv) (nI a) (nI b)) := by
    intro c hc lc kX kY
    exact ⟨c, G, o1, o2, ly, xlf, xrt, xlv, yone, ytwo, ylv, hR, fun _ _ => rfl, Nat.le_refl _, hc, by omega, lc, fun poss hp => hX poss (kX poss hp), kY⟩
  have v0 : ga_v fa sb tc n G 0 := Or.inl (by omega)
  have l0 : ga_l ly 0 ≤ L + 1 := by unfold ga_l; rw [if_pos (by omega)]; omega
  have e0 : ∀ {q : Nat}, q < 1400 → ¬ q = 0 → ¬ nI q = 0 := fun h1 h2 => nI_ne0 (by omega) (by omega)
  have e1 : ∀ {q : Nat}, q < 1400 → ¬ q = 1 → ¬ nI q = 1 := fun h1 h2 => by rw [show (1 : Int32) = nI 1 from rfl, nI_eq (by omega) (by omega)]; exact h2
  by_cases a0 : a = 0
  · refine known 0 v0 l0 (fun poss hp => ?_) (fun pos2 hp => ?_)
    · unfold wX_and_21
      refine br_t ?_ hp
      unfold ga_i
      rw [(t0 ha).mpr a0, if_pos (by omega)]
      rfl
    · unfold wpY_and; dsimp only
      exact br_t (by rw [a0]; rfl) hp
  by_cases b0 : b = 0
  · refine known 0 v0 l0 (fun poss hp => ?_) (fun pos2 hp => ?_)
    · unfold wX_and_21
      refine br_t ?_ hp
      rw [ga_iC]
      unfold ga_i
      rw [(t0 hb).mpr b0, if_pos (by omega)]
      rfl
    · unfold wpY_and; dsimp only
      exact br_f (e0 qa a0) (br_t (by rw [b0]; rfl) hp)
  have ta0 : ¬ ga_t fa sb tc n a = 0 := fun h => a0 ((t0 ha).mp h)
  have tb0 : ¬ ga_t fa sb tc n b = 0 := fun h => b0 ((t0 hb).mp h)
  have ti0 : ¬ nI (ga_i (ga_t fa sb tc n a) (ga_t fa sb tc n b)) = 0 := e0 (by omega) (by unfold ga_i; split <;> omega)
  have xorX : (nI (ga_i (ga_t fa sb tc n a) (ga_t fa sb tc n b)) ^^^ nI (ga_m (ga_t fa sb tc n a) (ga_t fa sb tc n b)) = 1 ↔ b = ga_n a) := by
    rw [nx_xor, show (1 : Int32) = nI 1 from rfl]
    have eq : ga_i (ga_t fa sb tc n a) (ga_t fa sb tc n b) ^^^ ga_m (ga_t fa sb tc n a) (ga_t fa sb tc n b) = ga_t fa sb tc n a ^^^ ga_t fa sb tc n b := by
      unfold ga_i ga_m
      by_cases c : ga_t fa sb tc n a ≤ ga_t fa sb tc n b
      · rw [if_pos c, if_pos c]
      · rw [if_neg c, if_neg c, Nat.xor_comm]
    have lt : ga_t fa sb tc n a ^^^ ga_t fa sb tc n b < 512 := Nat.xor_lt_two_pow (n := 9) (by omega) (by omega)
    rw [eq, nI_eq (by omega) (by omega), ga_xe, ← ga_tn]
    exact ⟨fun h => ga_inj hb (ga_vn ha) h, fun h => by rw [h]⟩
  have xorY : (nI a ^^^ nI b = 1 ↔ b = ga_n a) := by
    rw [nx_xor, show (1 : Int32) = nI 1 from rfl]
    have lt : a ^^^ b < 2048 := Nat.xor_lt_two_pow (n := 11) (by omega) (by omega)
    rw [nI_eq (by omega) (by omega), ga_xe]
  by_cases opp : b = ga_n a
  · refine known 0 v0 l0 (fun poss hp => ?_) (fun pos2 hp => ?_)
    · unfold wX_and_21
      exact br_f ti0 (br_t (xorX.mpr opp) hp)
    · unfold wpY_and; dsimp only
      exact br_f (e0 qa a0) (br_f (e0 qb b0) (br_t (xorY.mpr opp) hp))
  by_cases a1 : a = 1
  · refine known b hb (by omega) (fun poss hp => ?_) (fun pos2 hp => ?_)
    · unfold wX_and_21
      refine br_f ti0 (br_f (fun h => opp (xorX.mp h)) (br_t ?_ ?_))
      · unfold ga_i; rw [(t1 ha).mpr a1, if_pos (by omega)]; rfl
      · unfold ga_m; rw [(t1 ha).mpr a1, if_pos (by omega)]; exact hp
    · unfold wpY_and; dsimp only
      exact br_f (e0 qa a0) (br_f (e0 qb b0) (br_f (fun h => opp (xorY.mp h)) (br_t (by rw [a1]; rfl) hp)))
  by_cases ab : a = b
  · refine known b hb (by omega) (fun poss hp => ?_) (fun pos2 hp => ?_)
    · unfold wX_and_21
      refine br_f ti0 (br_f (fun h => opp (xorX.mp h)) ?_)
      have em : ga_m (ga_t fa sb tc n a) (ga_t fa sb tc n b) = ga_t fa sb tc n b ∧ ga_i (ga_t fa sb tc n a) (ga_t fa sb tc n b) = ga_t fa sb tc n b := by rw [ab]; unfold ga_m ga_i; exact ⟨if_pos (Nat.le_refl _), if_pos (Nat.le_refl _)⟩
      rw [em.1, em.2]
      exact br_c (fun _ => hp) (fun _ => br_t rfl hp)
    · unfold wpY_and; dsimp only
      exact br_f (e0 qa a0) (br_f (e0 qb b0) (br_f (fun h => opp (xorY.mp h)) (br_f (e1 qa a1) (br_t (by rw [ab]) hp))))
  have nab : ¬ nI a = nI b := by rw [nI_eq (by omega) (by omega)]; exact ab
  by_cases b1 : b = 1
  · refine known a ha (by omega) (fun poss hp => ?_) (fun pos2 hp => ?_)
    · unfold wX_and_21
      refine br_f ti0 (br_f (fun h => opp (xorX.mp h)) (br_t ?_ ?_))
      · rw [ga_iC]; unfold ga_i; rw [(t1 hb).mpr b1, if_pos (by omega)]; rfl
      · rw [ga_mC]; unfold ga_m; rw [(t1 hb).mpr b1, if_pos (by omega)]; exact hp
    · unfold wpY_and; dsimp only
      exact br_f (e0 qa a0) (br_f (e0 qb b0) (br_f (fun h => opp (xorY.mp h)) (br_f (e1 qa a1) (br_f nab (br_t (by rw [b1]; rfl) hp)))))
  have ta1 : ¬ ga_t fa sb tc n a = 1 := fun h => a1 ((t1 ha).mp h)
  have tb1 : ¬ ga_t fa sb tc n b = 1 := fun h => b1 ((t1 hb).mp h)
  have tab : ¬ ga_t fa sb tc n a = ga_t fa sb tc n b := fun h => ab (ga_inj ha hb h)
  obtain ⟨c, G', o1', o2', ly', xlf', xrt', xlv', yone', ytwo', ylv', i1, i2, i3, i4, i5, i6, i7, i8⟩ := pr_seek hR hG ha hb la lb hL G 0 (by omega)
  refine ⟨c, G', o1', o2', ly', xlf', xrt', xlv', yone', ytwo', ylv', i1, i2, i3, i4, i5, i6, fun poss hp => hX poss ?_, fun pos2 hp => ?_⟩
  · unfold wX_and_21
    refine br_f ti0 (br_f (fun h => opp (xorX.mp h)) (br_f ?_ (br_f ?_ ⟨_, i7 poss hp⟩)))
    · exact e1 (by omega) (by unfold ga_i; split <;> omega)
    · rw [nI_eq (by omega) (by omega)]; unfold ga_i ga_m; split <;> omega
  · unfold wpY_and; dsimp only
    exact br_f (e0 qa a0) (br_f (e0 qb b0) (br_f (fun h => opp (xorY.mp h)) (br_f (e1 qa a1) (br_f nab (br_f (e1 qb b1) ⟨_, i8 pos2 hp⟩)))))
theorem pr_or (hR : ga_R fa sb tc n G o1 o2 ly xlf xrt xlv yone ytwo ylv) (ha : ga_v fa sb tc n G a) (hb : ga_v fa sb tc n G b) (la : ga_l ly a ≤ L) (lb : ga_l ly b ≤ L) (hL : L < 127) (hG : G < 200) : ∃ (c G' : Nat) (o1' o2' ly' : Nat → Nat) (xlf' xrt' xlv' yone' ytwo' ylv' : Nat → Int32), ga_R fa sb tc n G' o1' o2' ly' xlf' xrt' xlv' yone' ytwo' ylv' ∧ (∀ g, g < G → ly' g = ly g) ∧ G ≤ G' ∧ ga_v fa sb tc n G' c ∧ G' ≤ G + 1 ∧ ga_l ly' c ≤ L + 1 ∧
    (∀ poss : Int32 → SX → Prop, poss (nI (ga_t fa sb tc n c)) (nI st, nI nd, nI bu, xad, nI nx, nI G', xto, ar_N kd, ar_N sb, ar_N tc, ar_N sg, ar_N wd, ar_N fa, ar_N ww, gs, ar_O so, xcd, xws, ar_N rg, ar_N ce, ar_O nm, xon, xgu, ar_N xdn, ar_N xsn, ar_N xpr, ar_N xcl, xtr, ar_N ct, xlf', xrt', xlv') → wpX_or poss (nI st, nI nd, nI bu, xad, nI nx, nI G, xto, ar_N kd, ar_N sb, ar_N tc, ar_N sg, ar_N wd, ar_N fa, ar_N ww, gs, ar_O so, xcd, xws, ar_N rg, ar_N ce, ar_O nm, xon, xgu, ar_N xdn, ar_N xsn, ar_N xpr, ar_N xcl, xtr, ar_N ct, xlf, xrt, xlv) (nI (ga_t fa sb tc n a)) (nI (ga_t fa sb tc n b))) ∧ (∀ pos2 : Int32 → SY → Prop, pos2 (nI c) (nI st, nI nd, nI bu, yad, nI wk, nI nx, nI kc1, nI kc0, nI kc2, nI kc3, nI kc4, nI kc5, nI kc6, nI kc7, yts, nI gi, nI G', ar_N ww, ar_N rg, ar_N ce, gs, ar_N kd, ar_N fa, ybs, ycs, ar_N sg, ywd, ar_O so, ycd, yws, ar_N nb, ar_N sy, ar_N vl, ar_N pv, ar_N pc, ygu, ar_N gv, ar_N dn, ar_N wo, ar_N pp, ar_N yo, ar_N wh, ar_N wt, ar_N wi, ar_N tr, ar_N tg, yone', ytwo', ylv') → wpY_or pos2 (nI st, nI nd, nI bu, yad, nI wk, nI nx, nI kc1, nI kc0, nI kc2, nI kc3, nI kc4, nI kc5, nI kc6, nI kc7, yts, nI gi, nI G, ar_N ww, ar_N rg, ar_N ce, gs, ar_N kd, ar_N fa, ybs, ycs, ar_N sg, ywd, ar_O so, ycd, yws, ar_N nb, ar_N sy, ar_N vl, ar_N pv, ar_N pc, ygu, ar_N gv, ar_N dn, ar_N wo, ar_N pp, ar_N yo, ar_N wh, ar_N wt, ar_N wi, ar_N tr, ar_N tg, yone, ytwo, ylv) (nI a) (nI b)) := by
  obtain ⟨c, G', o1', o2', ly', xlf', xrt', xlv', yone', ytwo', ylv', i1, i2, i3, i4, i5, i6, i7, i8⟩ := pr_and (a := ga_n a) (b := ga_n b) (L := L) hR (ga_vn ha) (ga_vn hb) (by rw [ga_ln]; exact la) (by rw [ga_ln]; exact lb) hL hG
  refine ⟨ga_n c, G', o1', o2', ly', xlf', xrt', xlv', yone', ytwo', ylv', i1, i2, i3, ga_vn i4, i5, by rw [ga_ln]; exact i6, fun poss hp => ?_, fun pos2 hp => ?_⟩
  · unfold wpX_or
    dsimp only
    rw [ga_t1I, ga_t1I]
    refine i7 _ ?_
    rw [ga_t1I]
    exact hp
  · unfold wpY_or
    dsimp only
    rw [ga_x1I, ga_x1I]
    refine i8 _ ?_
    rw [ga_x1I]
    exact hp
theorem pr_xor (hR : ga_R fa sb tc n G o1 o2 ly xlf xrt xlv yone ytwo ylv) (ha : ga_v fa sb tc n G a) (hb : ga_v fa sb tc n G b) (la : ga_l ly a ≤ L) (lb : ga_l ly b ≤ L) (hL : L + 1 < 127) (hG : G + 2 < 200) : ∃ (c G' : Nat) (o1' o2' ly' : Nat → Nat) (xlf' xrt' xlv' yone' ytwo' ylv' : Nat → Int32), ga_R fa sb tc n G' o1' o2' ly' xlf' xrt' xlv' yone' ytwo' ylv' ∧ (∀ g, g < G → ly' g = ly g) ∧ G ≤ G' ∧ ga_v fa sb tc n G' c ∧ G' ≤ G + 3 ∧ ga_l ly' c ≤ L + 2 ∧
    (∀ poss : Int32 → SX → Prop, poss (nI (ga_t fa sb tc n c)) (nI st, nI nd, nI bu, xad, nI nx, nI G', xto, ar_N kd, ar_N sb, ar_N tc, ar_N sg, ar_N wd, ar_N fa, ar_N ww, gs, ar_O so, xcd, xws, ar_N rg, ar_N ce, ar_O nm, xon, xgu, ar_N xdn, ar_N xsn, ar_N xpr, ar_N xcl, xtr, ar_N ct, xlf', xrt', xlv') → wpX_xor poss (nI st, nI nd, nI bu, xad, nI nx, nI G, xto, ar_N kd, ar_N sb, ar_N tc, ar_N sg, ar_N wd, ar_N fa, ar_N ww, gs, ar_O so, xcd, xws, ar_N rg, ar_N ce, ar_O nm, xon, xgu, ar_N xdn, ar_N xsn, ar_N xpr, ar_N xcl, xtr, ar_N ct, xlf, xrt, xlv) (nI (ga_t fa sb tc n a)) (nI (ga_t fa sb tc n b))) ∧ (∀ pos2 : Int32 → SY → Prop, pos2 (nI c) (nI st, nI nd, nI bu, yad, nI wk, nI nx, nI kc1, nI kc0, nI kc2, nI kc3, nI kc4, nI kc5, nI kc6, nI kc7, yts, nI gi, nI G', ar_N ww, ar_N rg, ar_N ce, gs, ar_N kd, ar_N fa, ybs, ycs, ar_N sg, ywd, ar_O so, ycd, yws, ar_N nb, ar_N sy, ar_N vl, ar_N pv, ar_N pc, ygu, ar_N gv, ar_N dn, ar_N wo, ar_N pp, ar_N yo, ar_N wh, ar_N wt, ar_N wi, ar_N tr, ar_N tg, yone', ytwo', ylv') → wpY_xor pos2 (nI st, nI nd, nI bu, yad, nI wk, nI nx, nI kc1, nI kc0, nI kc2, nI kc3, nI kc4, nI kc5, nI kc6, nI kc7, yts, nI gi, nI G, ar_N ww, ar_N rg, ar_N ce, gs, ar_N kd, ar_N fa, ybs, ycs, ar_N sg, ywd, ar_O so, ycd, yws, ar_N nb, ar_N sy, ar_N vl, ar_N pv, ar_N pc, ygu, ar_N gv, ar_N dn, ar_N wo, ar_N pp, ar_N yo, ar_N wh, ar_N wt, ar_N wi, ar_N tr, ar_N tg, yone, ytwo, ylv) (nI a) (nI b)) := by
  obtain ⟨c1, G1, o11, o21, ly1, xlf1, xrt1, xlv1, yone1, ytwo1, ylv1, p1, p2, p3, p4, p5, p6, p7, p8⟩ := pr_or (a := a) (b := b) (L := L) hR ha hb la lb (by omega) (by omega)
  obtain ⟨c2, G2, o12, o22, ly2, xlf2, xrt2, xlv2, yone2, ytwo2, ylv2, q1, q2, q3, q4, q5, q6, q7, q8⟩ := pr_and (a := a) (b := b) (L := L) p1 (ga_vm ha p3) (ga_vm hb p3) (by rw [ga_lm ha p2]; exact la) (by rw [ga_lm hb p2]; exact lb) (by omega) (by omega)
  obtain ⟨c3, G3, o13, o23, ly3, xlf3, xrt3, xlv3, yone3, ytwo3, ylv3, r1, r2, r3, r4, r5, r6, r7, r8⟩ := pr_and (a := c1) (b := ga_n c2) (L := L + 1) q1 (ga_vm p4 q3) (ga_vn q4) (by rw [ga_lm p4 q2]; exact p6) (by rw [ga_ln]; exact q6) (by omega) (by omega)
  refine ⟨c3, G3, o13, o23, ly3, xlf3, xrt3, xlv3, yone3, ytwo3, ylv3, r1, fun g hg => ?_, by omega, r4, by omega, r6, fun poss hp => ?_, fun pos2 hp => ?_⟩
  · rw [r2 g (by omega), q2 g (by omega), p2 g hg]
  · unfold wpX_xor
    dsimp only
    refine p7 _ (q7 _ ?_)
    dsimp only
    rw [ga_t1I]
    exact r7 _ hp
  · unfold wpY_xor
    dsimp only
    refine p8 _ (q8 _ ?_)
    dsimp only
    rw [ga_x1I]
    exact r8 _ hp
end
/-- bit k of a node, as the reference's literal -/
def ga_b (kd fa wd : Nat → Nat) (m k : Nat) : Nat := if k < wd m then (if kd m = 0 then fa m / 2 ^ k % 2 else 2 + 2 * (16 * m + k)) else 0
section
variable {st nd bu nx wk kc1 kc0 kc2 kc3 kc4 kc5 kc6 kc7 gi ad : Nat} {xad xga xto yad yts yga : Int32} {kd sb tc sg wd fa ww so rg ce nm xdn xsn xpr xcl ct nb sy vl pv pc gv dn wo pp yo wh wt wi tr tg cd ws : Nat → Nat} {gs xcd xws xon xgu xlf xrt xlv ybs ycs ywd ycd yws ygu yone ytwo ylv : Nat → Int32} {xtr : Nat → Int64}
variable {n j k : Nat} {post : Int32 → Prop}
theorem ga_bv {G : Nat} (hM : re_M st nd kd fa sb tc sg wd ww so cd ws ad gs xcd xws ycd yws ybs ycs xad yad) (hn : n < nd) (hj : j < re_op (kd n)) : ga_v fa sb tc n G (ga_b kd fa wd (re_nm fa sb tc n j) k) ∧ ga_b kd fa wd (re_nm fa sb tc n j) k < 1000 := by
  have hst := hM.1
  obtain ⟨r1, r2, -⟩ := re_nmB (j := j) hM hn hj
  have h16 := re_w16 hM (re_nm fa sb tc n j) (by omega)
  have hm : re_nm fa sb tc n j = fa n ∨ re_nm fa sb tc n j = sb n ∨ re_nm fa sb tc n j = tc n := by
    unfold re_nm
    by_cases a : j = 0
    · rw [if_pos a]; exact Or.inl rfl
    · rw [if_neg a]
      by_cases b : j = 1
      · rw [if_pos b]; exact Or.inr (Or.inl rfl)
      · rw [if_neg b]; exact Or.inr (Or.inr rfl)
  generalize re_nm fa sb tc n j = m at *
  unfold ga_b
  by_cases c : k < wd m
  · rw [if_pos c]
    by_cases z : kd m = 0
    · rw [if_pos z]
      have := Nat.mod_lt (fa m / 2 ^ k) (show 2 > 0 by decide)
      exact ⟨Or.inl this, by omega⟩
    · rw [if_neg z]
      refine ⟨Or.inr (Or.inl ⟨by omega, by omega, ?_⟩), by omega⟩
      rw [show (2 + 2 * (16 * m + k) - 2) / 32 = m by omega]
      exact hm
  · rw [if_neg c]
    exact ⟨Or.inl (by omega), by omega⟩
theorem ga_b0 (ly : Nat → Nat) {q : Nat} (h : q < 1000) : ga_l ly q = 0 := if_pos h
theorem xq_bit46 {m : Nat} (hn : n < 24) (hm : m < 24) (hk : k < 16) (h3 : fa n < 65536 ∧ sb n < 65536 ∧ (j = 2 → tc n < 65536)) (hj : j < 3) (he : re_nm fa sb tc n j = m) (hp : post (nI (2 * (1 + 16 * ga_s fa sb tc n m + k)))) : ∃ f, wX_bit_46 post (nI n) (nI k) (nI m) (nI st) (nI nd) (nI bu) xad (nI nx) xga xto (ar_N kd) (ar_N sb) (ar_N tc) (ar_N sg) (ar_N wd) (ar_N fa) (ar_N ww) gs (ar_O so) xcd xws (ar_N rg) (ar_N ce) (ar_O nm) xon xgu (ar_N xdn) (ar_N xsn) (ar_N xpr) (ar_N xcl) xtr (ar_N ct) xlf xrt xlv f (nI 0) := by
  have step : ∀ (f s : Nat), s ≤ 2 → re_nm fa sb tc n s < 65536 → (re_nm fa sb tc n s = m → s = ga_s fa sb tc n m) → (re_nm fa sb tc n s ≠ m → wX_bit_46 post (nI n) (nI k) (nI m) (nI st) (nI nd) (nI bu) xad (nI nx) xga xto (ar_N kd) (ar_N sb) (ar_N tc) (ar_N sg) (ar_N wd) (ar_N fa) (ar_N ww) gs (ar_O so) xcd xws (ar_N rg) (ar_N ce) (ar_O nm) xon xgu (ar_N xdn) (ar_N xsn) (ar_N xpr) (ar_N xcl) xtr (ar_N ct) xlf xrt xlv f (nI (s + 1))) → wX_bit_46 post (nI n) (nI k) (nI m) (nI st) (nI nd) (nI bu) xad (nI nx) xga xto (ar_N kd) (ar_N sb) (ar_N tc) (ar_N sg) (ar_N wd) (ar_N fa) (ar_N ww) gs (ar_O so) xcd xws (ar_N rg) (ar_N ce) (ar_O nm) xon xgu (ar_N xdn) (ar_N xsn) (ar_N xpr) (ar_N xcl) xtr (ar_N ct) xlf xrt xlv (f + 1) (nI s) := by
    intro f s hs hb h1 h0
    rw [wX_bit_46]
    refine xq_named hn (by omega) ?_
    refine pk_eq (re_nm fa sb tc n s) m (fun q => ?_) (fun q w ew => ?_)
    · rw [show (2 : Int32) * (1 + 16 * nI s + nI k) = nI (2 * (1 + 16 * s + k)) by rw [show (2 : Int32) = nI 2 from rfl, show (1 : Int32) = nI 1 from rfl, show (16 : Int32) = nI 16 from rfl, ar_mul, ar_add, ar_add, ar_mul], h1 q]
      exact hp
    · rw [ew, nI_1]; exact h0 q
  have n0 : re_nm fa sb tc n 0 = fa n := rfl
  have n1 : re_nm fa sb tc n 1 = sb n := rfl
  have n2 : re_nm fa sb tc n 2 = tc n := rfl
  refine ⟨3, step 2 0 (by omega) (by rw [n0]; omega) (fun q => ?_) (fun q0 => step 1 1 (by omega) (by rw [n1]; omega) (fun q => ?_) (fun q1 => step 0 2 (by omega) (by
      rw [n2]
      refine h3.2.2 ?_
      have : j = 0 ∨ j = 1 ∨ j = 2 := by omega
      rcases this with rfl | rfl | rfl
      · exact absurd he q0
      · exact absurd he q1
      · rfl) (fun q => ?_) (fun q2 => ?_)))⟩
  · rw [n0] at q; unfold ga_s; rw [if_pos q]
  · rw [n0] at q0; rw [n1] at q; unfold ga_s; rw [if_neg q0, if_pos q]
  · rw [n0] at q0; rw [n1] at q1; unfold ga_s; rw [if_neg q0, if_neg q1]
  · exfalso
    have : j = 0 ∨ j = 1 ∨ j = 2 := by omega
    rcases this with rfl | rfl | rfl
    · exact q0 he
    · exact q1 he
    · exact q2 he
theorem xq_bit (hM : re_M st nd kd fa sb tc sg wd ww so cd ws ad gs xcd xws ycd yws ybs ycs xad yad) (hn : n < nd) (hj : j < re_op (kd n)) (hk : k < 2 ^ 31) (hp : post (nI (ga_t fa sb tc n (ga_b kd fa wd (re_nm fa sb tc n j) k)))) : wpX_bit post (nI st, nI nd, nI bu, xad, nI nx, xga, xto, ar_N kd, ar_N sb, ar_N tc, ar_N sg, ar_N wd, ar_N fa, ar_N ww, gs, ar_O so, xcd, xws, ar_N rg, ar_N ce, ar_O nm, xon, xgu, ar_N xdn, ar_N xsn, ar_N xpr, ar_N xcl, xtr, ar_N ct, xlf, xrt, xlv) (nI n) (nI j) (nI k) := by
  have hst := hM.1
  obtain ⟨r1, r2, -⟩ := re_nmB (j := j) hM hn hj
  obtain ⟨b1, b2, b3, b4, b5, b6, b7, -⟩ := hM.2.1 n hn
  have hm24 : re_nm fa sb tc n j < nd := by omega
  obtain ⟨m1, m2, -⟩ := hM.2.1 _ hm24
  have h16 := re_w16 hM _ hm24
  have bm := vp_in_nI (show re_nm fa sb tc n j < 24 by omega) (show 24 < 2 ^ 31 by omega)
  have bv := ga_bv (G := 0) (k := k) hM hn hj
  unfold wpX_bit
  dsimp only
  refine xq_named (by omega) (by omega) ⟨bm, ?_⟩
  rw [nI_clamp (by omega), ar_Nap, ar_Nap, ar_Nap]
  unfold ga_b at hp bv
  refine pk_lt k (wd (re_nm fa sb tc n j)) (fun c => ⟨bm, ?_⟩) (fun c => ?_)
  · rw [if_pos c] at hp bv
    refine pk_eq (kd (re_nm fa sb tc n j)) 0 (fun z => ⟨bm, ?_⟩) (fun z => ?_)
    · rw [if_pos z] at hp
      have hl := Nat.mod_lt (fa (re_nm fa sb tc n j) / 2 ^ k) (show 2 > 0 by decide)
      rw [ga_t0 hl] at hp
      rw [show (nI (fa (re_nm fa sb tc n j)) >>> (nI k &&& 31)) &&& 1 = nI (fa (re_nm fa sb tc n j) / 2 ^ k % 2) from ar_b1 (m2 z) (by omega)]
      exact hp
    · rw [if_neg z] at hp bv
      rw [ga_tI (by omega) bv.2, show (2 + 2 * (16 * re_nm fa sb tc n j + k) - 2) / 32 = re_nm fa sb tc n j by omega, show (2 + 2 * (16 * re_nm fa sb tc n j + k) - 2) / 2 % 16 = k by omega, show (2 + 2 * (16 * re_nm fa sb tc n j + k)) % 2 = 0 by omega, Nat.add_zero] at hp
      exact xq_bit46 (by omega) (by omega) (by omega) ⟨by omega, by omega, fun q => by subst q; have e : re_nm fa sb tc n 2 = tc n := rfl; omega⟩ r2 rfl hp
  · rw [if_neg (by omega)] at hp
    exact hp
theorem yq_bit {m : Nat} (hM : re_M st nd kd fa sb tc sg wd ww so cd ws ad gs xcd xws ycd yws ybs ycs xad yad) (hwd : ∀ n, n < nd → ywd n = nI (wd n)) (hm : m < nd) (hk : k < 2 ^ 31) (hp : post (nI (ga_b kd fa wd m k))) : wpY_bit post (nI st, nI nd, nI bu, yad, nI wk, nI nx, nI kc1, nI kc0, nI kc2, nI kc3, nI kc4, nI kc5, nI kc6, nI kc7, yts, nI gi, yga, ar_N ww, ar_N rg, ar_N ce, gs, ar_N kd, ar_N fa, ybs, ycs, ar_N sg, ywd, ar_O so, ycd, yws, ar_N nb, ar_N sy, ar_N vl, ar_N pv, ar_N pc, ygu, ar_N gv, ar_N dn, ar_N wo, ar_N pp, ar_N yo, ar_N wh, ar_N wt, ar_N wi, ar_N tr, ar_N tg, yone, ytwo, ylv) (nI m) (nI k) := by
  have hst := hM.1
  obtain ⟨m1, m2, -⟩ := hM.2.1 _ hm
  have h16 := re_w16 hM _ hm
  have bm := vp_in_nI (show m < 24 by omega) (show 24 < 2 ^ 31 by omega)
  unfold wpY_bit
  dsimp only
  rw [nI_clamp (by omega), hwd m hm, ar_Nap, ar_Nap]
  unfold ga_b at hp
  refine ⟨bm, pk_lt k (wd m) (fun c => ⟨bm, ?_⟩) (fun c => ?_)⟩
  · rw [if_pos c] at hp
    refine pk_eq (kd m) 0 (fun z => ⟨bm, ?_⟩) (fun z => ?_)
    · rw [if_pos z] at hp
      rw [show (nI (fa m) >>> (nI k &&& 31)) &&& 1 = nI (fa m / 2 ^ k % 2) from ar_b1 (m2 z) (by omega)]
      exact hp
    · rw [if_neg z] at hp
      rw [show (2 : Int32) + 2 * (16 * nI m + nI k) = nI (2 + 2 * (16 * m + k)) by rw [show (2 : Int32) = nI 2 from rfl, show (16 : Int32) = nI 16 from rfl, ar_mul, ar_add, ar_mul, ar_add]]
      exact hp
  · rw [if_neg (by omega)] at hp
    exact hp
theorem xq_tell {posu : SX → Prop} {G T c : Nat} {o1 o2 ly : Nat → Nat} (hR : ga_R fa sb tc n G o1 o2 ly xlf xrt xlv yone ytwo ylv) (hc : ga_v fa sb tc n G c) (hG : G ≤ 200) (hT : T < 200) (hl : ga_l ly c < 200) (hp : posu (nI st, nI nd, nI bu, xad, nI nx, xga, nI (ga_m T (ga_l ly c)), ar_N kd, ar_N sb, ar_N tc, ar_N sg, ar_N wd, ar_N fa, ar_N ww, gs, ar_O so, xcd, xws, ar_N rg, ar_N ce, ar_O nm, xon, xgu, ar_N xdn, ar_N xsn, ar_N xpr, ar_N xcl, xtr, ar_N ct, xlf, xrt, xlv)) : wpX_tell posu (nI st, nI nd, nI bu, xad, nI nx, xga, nI T, ar_N kd, ar_N sb, ar_N tc, ar_N sg, ar_N wd, ar_N fa, ar_N ww, gs, ar_O so, xcd, xws, ar_N rg, ar_N ce, ar_O nm, xon, xgu, ar_N xdn, ar_N xsn, ar_N xpr, ar_N xcl, xtr, ar_N ct, xlf, xrt, xlv) (nI (ga_t fa sb tc n c)) := by
  have tb := ga_tB hc hG
  unfold wpX_tell
  dsimp only
  rw [show nI (ga_t fa sb tc n c) >>> ((1 : Int32) &&& 31) = nI (ga_t fa sb tc n c / 2) from pk_shrN (by omega) _ 1 (by decide), nI_clamp (by omega), ga_xl hR hc]
  exact ⟨vp_in_nI (by omega) (by omega), xq_greater (by omega) (by omega) hp⟩
end
end
section
/-! lowering a node: both sides in lockstep -/
section
variable {st nd bu nx wk kc1 kc0 kc2 kc3 kc4 kc5 kc6 kc7 gi ad : Nat} {xad xga xto yad yts yga : Int32} {kd sb tc sg wd fa ww so rg ce nm xdn xsn xpr xcl ct nb sy vl pv pc gv dn wo pp yo wh wt wi tr tg cd ws : Nat → Nat} {gs xcd xws xon xgu xlf xrt xlv ybs ycs ywd ycd yws ygu yone ytwo ylv : Nat → Int32} {xtr : Nat → Int64}
variable {n : Nat}
theorem yq_383 {x1 x2 x3 x4 x6 x7 : Int32} {pos2 : Int32 → SY → Prop} {f T G k c : Nat} {o1 o2 ly : Nat → Nat} (hR : ga_R fa sb tc n G o1 o2 ly xlf xrt xlv yone ytwo ylv) (hc : ga_v fa sb tc n G c) (hG : G ≤ 200) (hT : T < 200) (hl : ga_l ly c < 200) (hp : wY_lower_172 pos2 x1 x2 x3 x4 x6 f (nI (ga_m T (ga_l ly c))) x7 (nI (k + 1)) (nI st) (nI nd) (nI bu) yad (nI wk) (nI nx) (nI kc1) (nI kc0) (nI kc2) (nI kc3) (nI kc4) (nI kc5) (nI kc6) (nI kc7) yts (nI gi) yga (ar_N ww) (ar_N rg) (ar_N ce) gs (ar_N kd) (ar_N fa) ybs ycs (ar_N sg) ywd (ar_O so) ycd yws (ar_N nb) (ar_N sy) (ar_N vl) (ar_N pv) (ar_N pc) ygu (ar_N gv) (ar_N dn) (ar_N wo) (ar_N pp) (ar_N yo) (ar_N wh) (ar_N wt) (ar_N wi) (ar_N tr) (ar_N tg) yone ytwo ylv) : wY_lower_383 pos2 (wY_lower_172 pos2 x1 x2 x3 x4 x6 f) x1 x2 x3 x4 (nI T) x6 x7 (nI k) (nI c) (nI st) (nI nd) (nI bu) yad (nI wk) (nI nx) (nI kc1) (nI kc0) (nI kc2) (nI kc3) (nI kc4) (nI kc5) (nI kc6) (nI kc7) yts (nI gi) yga (ar_N ww) (ar_N rg) (ar_N ce) gs (ar_N kd) (ar_N fa) ybs ycs (ar_N sg) ywd (ar_O so) ycd yws (ar_N nb) (ar_N sy) (ar_N vl) (ar_N pv) (ar_N pc) ygu (ar_N gv) (ar_N dn) (ar_N wo) (ar_N pp) (ar_N yo) (ar_N wh) (ar_N wt) (ar_N wi) (ar_N tr) (ar_N tg) yone ytwo ylv := by
  unfold wY_lower_383
  refine yq_levelOf hR hc hG ?_
  refine pk_le (ga_l ly c) T (fun q w ew => ?_) (fun q w ew => ?_)
  · rw [show ga_m T (ga_l ly c) = T by unfold ga_m; split <;> omega] at hp
    rw [ew, nI_1]; exact hp
  · rw [show ga_m T (ga_l ly c) = ga_l ly c by unfold ga_m; split <;> omega] at hp
    rw [ew, nI_1]; exact hp
/-- and, xor -/
theorem pr_loA (hM : re_M st nd kd fa sb tc sg wd ww so cd ws ad gs xcd xws ycd yws ybs ycs xad yad) (hwd : ∀ n, n < nd → ywd n = nI (wd n)) (hn : n < nd) (hk : kd n = 5 ∨ kd n = 6) : ∀ d k (T G : Nat) (o1 o2 ly : Nat → Nat) (xlf xrt xlv yone ytwo ylv : Nat → Int32), k + d = wd n → ga_R fa sb tc n G o1 o2 ly xlf xrt xlv yone ytwo ylv → G ≤ 3 * k → T ≤ 2 →
    ∃ (T' G' : Nat) (xlf' xrt' xlv' yone' ytwo' ylv' : Nat → Int32), (∀ i, i < 50 → xlv' i = 0) ∧ (∀ posu : SX → Prop, posu (nI st, nI nd, nI bu, xad, nI nx, nI G', nI T', ar_N kd, ar_N sb, ar_N tc, ar_N sg, ar_N wd, ar_N fa, ar_N ww, gs, ar_O so, xcd, xws, ar_N rg, ar_N ce, ar_O nm, xon, xgu, ar_N xdn, ar_N xsn, ar_N xpr, ar_N xcl, xtr, ar_N ct, xlf', xrt', xlv') → wX_lower_177 posu (nI n) (d + 1) (nI k) (nI st) (nI nd) (nI bu) xad (nI nx) (nI G) (nI T) (ar_N kd) (ar_N sb) (ar_N tc) (ar_N sg) (ar_N wd) (ar_N fa) (ar_N ww) gs (ar_O so) xcd xws (ar_N rg) (ar_N ce) (ar_O nm) xon xgu (ar_N xdn) (ar_N xsn) (ar_N xpr) (ar_N xcl) xtr (ar_N ct) xlf xrt xlv) ∧ (∀ pos2 : Int32 → SY → Prop, pos2 (nI T') (nI st, nI nd, nI bu, yad, nI wk, nI nx, nI kc1, nI kc0, nI kc2, nI kc3, nI kc4, nI kc5, nI kc6, nI kc7, yts, nI gi, nI G', ar_N ww, ar_N rg, ar_N ce, gs, ar_N kd, ar_N fa, ybs, ycs, ar_N sg, ywd, ar_O so, ycd, yws, ar_N nb, ar_N sy, ar_N vl, ar_N pv, ar_N pc, ygu, ar_N gv, ar_N dn, ar_N wo, ar_N pp, ar_N yo, ar_N wh, ar_N wt, ar_N wi, ar_N tr, ar_N tg, yone', ytwo', ylv') → wY_lower_172 pos2 (nI n) (nI (kd n)) (nI (fa n)) (nI (sb n)) (nI (wd n)) (d + 1) (nI T) (nI 0) (nI k) (nI st) (nI nd) (nI bu) yad (nI wk) (nI nx) (nI kc1) (nI kc0) (nI kc2) (nI kc3) (nI kc4) (nI kc5) (nI kc6) (nI kc7) yts (nI gi) (nI G) (ar_N ww) (ar_N rg) (ar_N ce) gs (ar_N kd) (ar_N fa) ybs ycs (ar_N sg) ywd (ar_O so) ycd yws (ar_N nb) (ar_N sy) (ar_N vl) (ar_N pv) (ar_N pc) ygu (ar_N gv) (ar_N dn) (ar_N wo) (ar_N pp) (ar_N yo) (ar_N wh) (ar_N wt) (ar_N wi) (ar_N tr) (ar_N tg) yone ytwo ylv) := by
  have hst := hM.1
  have bn := vp_in_nI (show n < 24 by omega) (show 24 < 2 ^ 31 by omega)
  have h16 := re_w16 hM n hn
  obtain ⟨b1, b2, b3, b4, b5, b6, -⟩ := hM.2.1 n hn
  have a4 := b4 (by omega)
  have a5 := (b5 (by omega)).1
  have o2' : re_op (kd n) = 2 := by rcases hk with q | q <;> rw [q] <;> rfl
  intro d
  induction d with
  | zero =>
    intro k T G o1 o2 ly xlf xrt xlv yone ytwo ylv hkd hR hG hT
    refine ⟨T, G, xlf, xrt, xlv, yone, ytwo, ylv, hR.2, fun posu hp => ?_, fun pos2 hp => ?_⟩
    · rw [wX_lower_177]
      refine ⟨bn, ?_⟩
      rw [nI_clamp (by omega), ar_Nap]
      exact br_t (nI_le (by omega) (by omega)) hp
    · rw [wY_lower_172]
      refine br_t (nI_le (by omega) (by omega)) (br_f ?_ (br_f ?_ hp))
      · rw [show (7 : Int32) = nI 7 from rfl, nI_eq (by omega) (by omega)]; omega
      · rw [show (8 : Int32) = nI 8 from rfl, nI_eq (by omega) (by omega)]; omega
  | succ d ih =>
    intro k T G o1 o2 ly xlf xrt xlv yone ytwo ylv hkd hR hG hT
    have vA := ga_bv (G := G) (k := k) (j := 0) hM hn (by omega)
    have vB := ga_bv (G := G) (k := k) (j := 1) hM hn (by omega)
    -- the rest, by what is made
    have rest : (∃ (c1 G1 : Nat) (o11 o21 ly1 : Nat → Nat) (xlf1 xrt1 xlv1 yone1 ytwo1 ylv1 : Nat → Int32), ga_R fa sb tc n G1 o11 o21 ly1 xlf1 xrt1 xlv1 yone1 ytwo1 ylv1 ∧ ga_v fa sb tc n G1 c1 ∧ G1 ≤ G + 3 ∧ ga_l ly1 c1 ≤ 2 ∧
        (∀ (posu : SX → Prop) (f : Nat), wX_lower_237 posu (wX_lower_177 posu (nI n) f) (nI n) (nI k) (nI (ga_t fa sb tc n c1)) (nI st) (nI nd) (nI bu) xad (nI nx) (nI G1) (nI T) (ar_N kd) (ar_N sb) (ar_N tc) (ar_N sg) (ar_N wd) (ar_N fa) (ar_N ww) gs (ar_O so) xcd xws (ar_N rg) (ar_N ce) (ar_O nm) xon xgu (ar_N xdn) (ar_N xsn) (ar_N xpr) (ar_N xcl) xtr (ar_N ct) xlf1 xrt1 xlv1 → wX_lower_177 posu (nI n) (f + 1) (nI k) (nI st) (nI nd) (nI bu) xad (nI nx) (nI G) (nI T) (ar_N kd) (ar_N sb) (ar_N tc) (ar_N sg) (ar_N wd) (ar_N fa) (ar_N ww) gs (ar_O so) xcd xws (ar_N rg) (ar_N ce) (ar_O nm) xon xgu (ar_N xdn) (ar_N xsn) (ar_N xpr) (ar_N xcl) xtr (ar_N ct) xlf xrt xlv) ∧
        (∀ (pos2 : Int32 → SY → Prop) (f : Nat), wY_lower_383 pos2 (wY_lower_172 pos2 (nI n) (nI (kd n)) (nI (fa n)) (nI (sb n)) (nI (wd n)) f) (nI n) (nI (kd n)) (nI (fa n)) (nI (sb n)) (nI T) (nI (wd n)) (nI 0) (nI k) (nI c1) (nI st) (nI nd) (nI bu) yad (nI wk) (nI nx) (nI kc1) (nI kc0) (nI kc2) (nI kc3) (nI kc4) (nI kc5) (nI kc6) (nI kc7) yts (nI gi) (nI G1) (ar_N ww) (ar_N rg) (ar_N ce) gs (ar_N kd) (ar_N fa) ybs ycs (ar_N sg) ywd (ar_O so) ycd yws (ar_N nb) (ar_N sy) (ar_N vl) (ar_N pv) (ar_N pc) ygu (ar_N gv) (ar_N dn) (ar_N wo) (ar_N pp) (ar_N yo) (ar_N wh) (ar_N wt) (ar_N wi) (ar_N tr) (ar_N tg) yone1 ytwo1 ylv1 → wY_lower_172 pos2 (nI n) (nI (kd n)) (nI (fa n)) (nI (sb n)) (nI (wd n)) (f + 1) (nI T) (nI 0) (nI k) (nI st) (nI nd) (nI bu) yad (nI wk) (nI nx) (nI kc1) (nI kc0) (nI kc2) (nI kc3) (nI kc4) (nI kc5) (nI kc6) (nI kc7) yts (nI gi) (nI G) (ar_N ww) (ar_N rg) (ar_N ce) gs (ar_N kd) (ar_N fa) ybs ycs (ar_N sg) ywd (ar_O so) ycd yws (ar_N nb) (ar_N sy) (ar_N vl) (ar_N pv) (ar_N pc) ygu (ar_N gv) (ar_N dn) (ar_N wo) (ar_N pp) (ar_N yo) (ar_N wh) (ar_N wt) (ar_N wi) (ar_N tr) (ar_N tg) yone ytwo ylv)) →
        ∃ (T' G' : Nat) (xlf' xrt' xlv' yone' ytwo' ylv' : Nat → Int32), (∀ i, i < 50 → xlv' i = 0) ∧ (∀ posu : SX → Prop, posu (nI st, nI nd, nI bu, xad, nI nx, nI G', nI T', ar_N kd, ar_N sb, ar_N tc, ar_N sg, ar_N wd, ar_N fa, ar_N ww, gs, ar_O so, xcd, xws, ar_N rg, ar_N ce, ar_O nm, xon, xgu, ar_N xdn, ar_N xsn, ar_N xpr, ar_N xcl, xtr, ar_N ct, xlf', xrt', xlv') → wX_lower_177 posu (nI n) (d + 1 + 1) (nI k) (nI st) (nI nd) (nI bu) xad (nI nx) (nI G) (nI T) (ar_N kd) (ar_N sb) (ar_N tc) (ar_N sg) (ar_N wd) (ar_N fa) (ar_N ww) gs (ar_O so) xcd xws (ar_N rg) (ar_N ce) (ar_O nm) xon xgu (ar_N xdn) (ar_N xsn) (ar_N xpr) (ar_N xcl) xtr (ar_N ct) xlf xrt xlv) ∧ (∀ pos2 : Int32 → SY → Prop, pos2 (nI T') (nI st, nI nd, nI bu, yad, nI wk, nI nx, nI kc1, nI kc0, nI kc2, nI kc3, nI kc4, nI kc5, nI kc6, nI kc7, yts, nI gi, nI G', ar_N ww, ar_N rg, ar_N ce, gs, ar_N kd, ar_N fa, ybs, ycs, ar_N sg, ywd, ar_O so, ycd, yws, ar_N nb, ar_N sy, ar_N vl, ar_N pv, ar_N pc, ygu, ar_N gv, ar_N dn, ar_N wo, ar_N pp, ar_N yo, ar_N wh, ar_N wt, ar_N wi, ar_N tr, ar_N tg, yone', ytwo', ylv') → wY_lower_172 pos2 (nI n) (nI (kd n)) (nI (fa n)) (nI (sb n)) (nI (wd n)) (d + 1 + 1) (nI T) (nI 0) (nI k) (nI st) (nI nd) (nI bu) yad (nI wk) (nI nx) (nI kc1) (nI kc0) (nI kc2) (nI kc3) (nI kc4) (nI kc5) (nI kc6) (nI kc7) yts (nI gi) (nI G) (ar_N ww) (ar_N rg) (ar_N ce) gs (ar_N kd) (ar_N fa) ybs ycs (ar_N sg) ywd (ar_O so) ycd yws (ar_N nb) (ar_N sy) (ar_N vl) (ar_N pv) (ar_N pc) ygu (ar_N gv) (ar_N dn) (ar_N wo) (ar_N pp) (ar_N yo) (ar_N wh) (ar_N wt) (ar_N wi) (ar_N tr) (ar_N tg) yone ytwo ylv) := by
      rintro ⟨c1, G1, o11, o21, ly1, xlf1, xrt1, xlv1, yone1, ytwo1, ylv1, p1, p2, p3, p4, p5, p6⟩
      obtain ⟨T', G', xlf', xrt', xlv', yone', ytwo', ylv', i1, i2, i3⟩ := ih (k + 1) (ga_m T (ga_l ly1 c1)) G1 o11 o21 ly1 xlf1 xrt1 xlv1 yone1 ytwo1 ylv1 (by omega) p1 (by omega) (by unfold ga_m; split <;> omega)
      refine ⟨T', G', xlf', xrt', xlv', yone', ytwo', ylv', i1, fun posu hp => p5 posu _ ?_, fun pos2 hp => p6 pos2 _ ?_⟩
      · unfold wX_lower_237
        refine xq_tell p1 p2 (by omega) (by omega) (by omega) ?_
        intro w ew
        rw [ew, nI_1]
        exact i2 posu hp
      · exact yq_383 p1 p2 (by omega) (by omega) (by omega) (i3 pos2 hp)
    have n57 : ∀ {q : Nat}, q < 10 → ¬ kd n = q → ¬ nI (kd n) = nI q := fun h1 h2 => by rw [nI_eq (by omega) (by omega)]; exact h2
    have hX : ∀ (posu : SX → Prop) (f : Nat), ((nI (kd n) = 5 → (wpX_and (fun r_149 u => match u with | (f_stages, f_nodes, f_built, f_address, f_next, f_gates, f_top, a_kind, a_second, a_third, a_stageOf, a_wide, a_first, a_width, a_guess, a_source, a_condition, a_writeStage, a_registers, a_cells, a_number, a_on, a_guessed, a_done, a_seen, a_prepared, a_cell, a_traced, a_counts, a_left, a_right, a_level) => (wX_lower_237 posu (wX_lower_177 posu (nI n) f) (nI n) (nI k) r_149 f_stages f_nodes f_built f_address f_next f_gates f_top a_kind a_second a_third a_stageOf a_wide a_first a_width a_guess a_source a_condition a_writeStage a_registers a_cells a_number a_on a_guessed a_done a_seen a_prepared a_cell a_traced a_counts a_left a_right a_level)) (nI st, nI nd, nI bu, xad, nI nx, nI G, nI T, ar_N kd, ar_N sb, ar_N tc, ar_N sg, ar_N wd, ar_N fa, ar_N ww, gs, ar_O so, xcd, xws, ar_N rg, ar_N ce, ar_O nm, xon, xgu, ar_N xdn, ar_N xsn, ar_N xpr, ar_N xcl, xtr, ar_N ct, xlf, xrt, xlv) (nI (ga_t fa sb tc n (ga_b kd fa wd (fa n) k))) (nI (ga_t fa sb tc n (ga_b kd fa wd (sb n) k))))) ∧ (¬ nI (kd n) = 5 → (wpX_xor (fun r_82 u => match u with | (f_stages, f_nodes, f_built, f_address, f_next, f_gates, f_top, a_kind, a_second, a_third, a_stageOf, a_wide, a_first, a_width, a_guess, a_source, a_condition, a_writeStage, a_registers, a_cells, a_number, a_on, a_guessed, a_done, a_seen, a_prepared, a_cell, a_traced, a_counts, a_left, a_right, a_level) => (wX_lower_237 posu (wX_lower_177 posu (nI n) f) (nI n) (nI k) r_82 f_stages f_nodes f_built f_address f_next f_gates f_top a_kind a_second a_third a_stageOf a_wide a_first a_width a_guess a_source a_condition a_writeStage a_registers a_cells a_number a_on a_guessed a_done a_seen a_prepared a_cell a_traced a_counts a_left a_right a_level)) (nI st, nI nd, nI bu, xad, nI nx, nI G, nI T, ar_N kd, ar_N sb, ar_N tc, ar_N sg, ar_N wd, ar_N fa, ar_N ww, gs, ar_O so, xcd, xws, ar_N rg, ar_N ce, ar_O nm, xon, xgu, ar_N xdn, ar_N xsn, ar_N xpr, ar_N xcl, xtr, ar_N ct, xlf, xrt, xlv) (nI (ga_t fa sb tc n (ga_b kd fa wd (fa n) k))) (nI (ga_t fa sb tc n (ga_b kd fa wd (sb n) k)))))) → wX_lower_177 posu (nI n) (f + 1) (nI k) (nI st) (nI nd) (nI bu) xad (nI nx) (nI G) (nI T) (ar_N kd) (ar_N sb) (ar_N tc) (ar_N sg) (ar_N wd) (ar_N fa) (ar_N ww) gs (ar_O so) xcd xws (ar_N rg) (ar_N ce) (ar_O nm) xon xgu (ar_N xdn) (ar_N xsn) (ar_N xpr) (ar_N xcl) xtr (ar_N ct) xlf xrt xlv := by
      intro posu f hp
      rw [wX_lower_177]
      refine ⟨bn, ?_⟩
      rw [nI_clamp (by omega), ar_Nap, ar_Nap]
      refine br_f (nI_ge (by omega) (by omega)) ?_
      refine xq_bit (j := 0) hM hn (by omega) (by omega) (xq_bit (j := 1) hM hn (by omega) (by omega) ⟨bn, ?_⟩)
      exact hp
    rcases hk with h5 | h6
    · obtain ⟨c1, G1, o11, o21, ly1, xlf1, xrt1, xlv1, yone1, ytwo1, ylv1, p1, p2, p3, p4, p5, p6, p7, p8⟩ := pr_and (xto := nI T) (L := 0) hR vA.1 vB.1 (by rw [ga_b0 ly vA.2]; omega) (by rw [ga_b0 ly vB.2]; omega) (by omega) (by omega)
      refine rest ⟨c1, G1, o11, o21, ly1, xlf1, xrt1, xlv1, yone1, ytwo1, ylv1, p1, p4, by omega, by omega, fun posu f hp => hX posu f (br_t (by rw [h5]; rfl) (p7 _ hp)), fun pos2 f hp => ?_⟩
      rw [wY_lower_172]
      refine br_f (nI_ge (by omega) (by omega)) ?_
      refine yq_bit hM hwd (by omega) (by omega) (yq_bit hM hwd (by omega) (by omega) ?_)
      exact br_t (by rw [h5]; rfl) (p8 _ hp)
    · obtain ⟨c1, G1, o11, o21, ly1, xlf1, xrt1, xlv1, yone1, ytwo1, ylv1, p1, p2, p3, p4, p5, p6, p7, p8⟩ := pr_xor (xto := nI T) (L := 0) hR vA.1 vB.1 (by rw [ga_b0 ly vA.2]; omega) (by rw [ga_b0 ly vB.2]; omega) (by omega) (by omega)
      refine rest ⟨c1, G1, o11, o21, ly1, xlf1, xrt1, xlv1, yone1, ytwo1, ylv1, p1, p4, by omega, by omega, fun posu f hp => hX posu f (br_f (by rw [h6]; decide) (p7 _ hp)), fun pos2 f hp => ?_⟩
      rw [wY_lower_172]
      refine br_f (nI_ge (by omega) (by omega)) ?_
      refine yq_bit hM hwd (by omega) (by omega) (yq_bit hM hwd (by omega) (by omega) ?_)
      exact br_f (by rw [h6]; decide) (br_t (by rw [h6]; rfl) (p8 _ hp))
end
end
section
/-! chains: add, subtract, less -/
def ga_op (k : Nat) : Nat := if k = 3 then 0 else 1
def ga_le (k : Nat) : Nat := if k = 7 then 1 else 0
section
variable {st nd bu nx wk kc1 kc0 kc2 kc3 kc4 kc5 kc6 kc7 gi ad : Nat} {xad xga xto yad yts yga : Int32} {kd sb tc sg wd fa ww so rg ce nm xdn xsn xpr xcl ct nb sy vl pv pc gv dn wo pp yo wh wt wi tr tg cd ws : Nat → Nat} {gs xcd xws xon xgu xlf xrt xlv ybs ycs ywd ycd yws ygu yone ytwo ylv : Nat → Int32} {xtr : Nat → Int64}
variable {n W : Nat}
theorem pr_loB (hM : re_M st nd kd fa sb tc sg wd ww so cd ws ad gs xcd xws ycd yws ybs ycs xad yad) (hwd : ∀ n, n < nd → ywd n = nI (wd n)) (hn : n < nd) (hk : kd n = 3 ∨ kd n = 4 ∨ kd n = 7) (hW : W ≤ 16) : ∀ d k c (T G : Nat) (o1 o2 ly : Nat → Nat) (xlf xrt xlv yone ytwo ylv : Nat → Int32), k + d = W → ga_R fa sb tc n G o1 o2 ly xlf xrt xlv yone ytwo ylv → ga_v fa sb tc n G c → ga_l ly c ≤ 2 * k + 2 → G ≤ 9 * k → T ≤ 2 * k + 4 → (kd n = 7 → T = 0) →
    ∃ (T' G' : Nat) (xlf' xrt' xlv' yone' ytwo' ylv' : Nat → Int32), (∀ i, i < 50 → xlv' i = 0) ∧ (∀ posu : SX → Prop, posu (nI st, nI nd, nI bu, xad, nI nx, nI G', nI T', ar_N kd, ar_N sb, ar_N tc, ar_N sg, ar_N wd, ar_N fa, ar_N ww, gs, ar_O so, xcd, xws, ar_N rg, ar_N ce, ar_O nm, xon, xgu, ar_N xdn, ar_N xsn, ar_N xpr, ar_N xcl, xtr, ar_N ct, xlf', xrt', xlv') → wX_chain_6 posu (nI n) (nI W) (nI (ga_op (kd n))) (nI (ga_le (kd n))) (d + 1) (nI (ga_t fa sb tc n c)) (nI k) (nI st) (nI nd) (nI bu) xad (nI nx) (nI G) (nI T) (ar_N kd) (ar_N sb) (ar_N tc) (ar_N sg) (ar_N wd) (ar_N fa) (ar_N ww) gs (ar_O so) xcd xws (ar_N rg) (ar_N ce) (ar_O nm) xon xgu (ar_N xdn) (ar_N xsn) (ar_N xpr) (ar_N xcl) xtr (ar_N ct) xlf xrt xlv) ∧ (∀ pos2 : Int32 → SY → Prop, pos2 (nI T') (nI st, nI nd, nI bu, yad, nI wk, nI nx, nI kc1, nI kc0, nI kc2, nI kc3, nI kc4, nI kc5, nI kc6, nI kc7, yts, nI gi, nI G', ar_N ww, ar_N rg, ar_N ce, gs, ar_N kd, ar_N fa, ybs, ycs, ar_N sg, ywd, ar_O so, ycd, yws, ar_N nb, ar_N sy, ar_N vl, ar_N pv, ar_N pc, ygu, ar_N gv, ar_N dn, ar_N wo, ar_N pp, ar_N yo, ar_N wh, ar_N wt, ar_N wi, ar_N tr, ar_N tg, yone', ytwo', ylv') → wY_lower_172 pos2 (nI n) (nI (kd n)) (nI (fa n)) (nI (sb n)) (nI W) (d + 1) (nI T) (nI c) (nI k) (nI st) (nI nd) (nI bu) yad (nI wk) (nI nx) (nI kc1) (nI kc0) (nI kc2) (nI kc3) (nI kc4) (nI kc5) (nI kc6) (nI kc7) yts (nI gi) (nI G) (ar_N ww) (ar_N rg) (ar_N ce) gs (ar_N kd) (ar_N fa) ybs ycs (ar_N sg) ywd (ar_O so) ycd yws (ar_N nb) (ar_N sy) (ar_N vl) (ar_N pv) (ar_N pc) ygu (ar_N gv) (ar_N dn) (ar_N wo) (ar_N pp) (ar_N yo) (ar_N wh) (ar_N wt) (ar_N wi) (ar_N tr) (ar_N tg) yone ytwo ylv) := by
  have hst := hM.1
  have bn := vp_in_nI (show n < 24 by omega) (show 24 < 2 ^ 31 by omega)
  obtain ⟨b1, b2, b3, b4, b5, b6, -⟩ := hM.2.1 n hn
  have a4 := b4 (by omega)
  have a5 := (b5 (by omega)).1
  have o2' : re_op (kd n) = 2 := by rcases hk with q | q | q <;> rw [q] <;> rfl
  have nk : ∀ {q : Nat}, q < 10 → ¬ kd n = q → ¬ nI (kd n) = nI q := fun h1 h2 => by rw [nI_eq (by omega) (by omega)]; exact h2
  have less0 : ¬ kd n = 7 → nI (ga_le (kd n)) = 0 := fun h => by unfold ga_le; rw [if_neg h]; rfl
  have less1 : kd n = 7 → ¬ nI (ga_le (kd n)) = 0 := fun h => by unfold ga_le; rw [if_pos h]; decide
  intro d
  induction d with
  | zero =>
    intro k c T G o1 o2 ly xlf xrt xlv yone ytwo ylv hkd hR hc lc hG hT h7
    by_cases k7 : kd n = 7
    · refine ⟨ga_l ly c, G, xlf, xrt, xlv, yone, ytwo, ylv, hR.2, fun posu hp => ?_, fun pos2 hp => ?_⟩
      · rw [wX_chain_6]
        refine br_t (nI_le (by omega) (by omega)) (br_f (less1 k7) ?_)
        refine xq_tell hR hc (by omega) (by omega) (by omega) ?_
        rw [h7 k7, show ga_m 0 (ga_l ly c) = ga_l ly c by unfold ga_m; rw [if_pos (by omega)]]
        exact hp
      · rw [wY_lower_172]
        refine br_t (nI_le (by omega) (by omega)) (br_t (by rw [k7]; rfl) ?_)
        unfold wY_lower_420
        exact yq_levelOf hR hc (by omega) hp
    · refine ⟨T, G, xlf, xrt, xlv, yone, ytwo, ylv, hR.2, fun posu hp => ?_, fun pos2 hp => ?_⟩
      · rw [wX_chain_6]
        exact br_t (nI_le (by omega) (by omega)) (br_t (less0 k7) hp)
      · rw [wY_lower_172]
        exact br_t (nI_le (by omega) (by omega)) (br_f (nk (q := 7) (by omega) k7) (br_f (nk (q := 8) (by omega) (by omega)) hp))
  | succ d ih =>
    intro k c T G o1 o2 ly xlf xrt xlv yone ytwo ylv hkd hR hc lc hG hT h7
    have vA := ga_bv (G := G) (k := k) (j := 0) hM hn (by omega)
    have vB := ga_bv (G := G) (k := k) (j := 1) hM hn (by omega)
    -- the second operand's bit, or its opposite
    obtain ⟨z, hz, zv, zl⟩ : ∃ z, z = (if kd n = 3 then (ga_b kd fa wd (sb n) k) else ga_n (ga_b kd fa wd (sb n) k)) ∧ ga_v fa sb tc n G z ∧ ∀ l, ga_l l z = 0 := by
      refine ⟨_, rfl, ?_, ?_⟩
      · by_cases q : kd n = 3
        · rw [if_pos q]; exact vB.1
        · rw [if_neg q]; exact ga_vn vB.1
      · intro l
        by_cases q : kd n = 3
        · rw [if_pos q]; exact ga_b0 l vB.2
        · rw [if_neg q, ga_ln]; exact ga_b0 l vB.2
    obtain ⟨c1, G1, o11, o21, ly1, xlf1, xrt1, xlv1, yone1, ytwo1, ylv1, p1, p2, p3, p4, p5, p6, p7, p8⟩ := pr_xor (xto := nI T) (L := 0) hR vA.1 zv (by have := ga_b0 ly vA.2; exact Nat.le_of_eq this) (by rw [zl]; omega) (by omega) (by omega)
    have hX : ∀ (posu : SX → Prop) (f : Nat), wpX_xor (fun r_103 u => match u with | (f_stages, f_nodes, f_built, f_address, f_next, f_gates, f_top, a_kind, a_second, a_third, a_stageOf, a_wide, a_first, a_width, a_guess, a_source, a_condition, a_writeStage, a_registers, a_cells, a_number, a_on, a_guessed, a_done, a_seen, a_prepared, a_cell, a_traced, a_counts, a_left, a_right, a_level) => (((nI (ga_le (kd n)) = 0 → (wpX_xor (fun r_240 u => match u with | (f_stages, f_nodes, f_built, f_address, f_next, f_gates, f_top, a_kind, a_second, a_third, a_stageOf, a_wide, a_first, a_width, a_guess, a_source, a_condition, a_writeStage, a_registers, a_cells, a_number, a_on, a_guessed, a_done, a_seen, a_prepared, a_cell, a_traced, a_counts, a_left, a_right, a_level) => (wpX_tell (fun u => match u with | (f_stages, f_nodes, f_built, f_address, f_next, f_gates, f_top, a_kind, a_second, a_third, a_stageOf, a_wide, a_first, a_width, a_guess, a_source, a_condition, a_writeStage, a_registers, a_cells, a_number, a_on, a_guessed, a_done, a_seen, a_prepared, a_cell, a_traced, a_counts, a_left, a_right, a_level) => (wX_chain_65 posu (wX_chain_6 posu (nI n) (nI W) (nI (ga_op (kd n))) (nI (ga_le (kd n))) f) (nI n) (nI W) (nI (ga_op (kd n))) (nI (ga_le (kd n))) (nI (ga_t fa sb tc n c)) (nI k) (nI (ga_t fa sb tc n (ga_b kd fa wd (fa n) k))) (nI (ga_t fa sb tc n z)) r_103 f_stages f_nodes f_built f_address f_next f_gates f_top a_kind a_second a_third a_stageOf a_wide a_first a_width a_guess a_source a_condition a_writeStage a_registers a_cells a_number a_on a_guessed a_done a_seen a_prepared a_cell a_traced a_counts a_left a_right a_level)) (f_stages, f_nodes, f_built, f_address, f_next, f_gates, f_top, a_kind, a_second, a_third, a_stageOf, a_wide, a_first, a_width, a_guess, a_source, a_condition, a_writeStage, a_registers, a_cells, a_number, a_on, a_guessed, a_done, a_seen, a_prepared, a_cell, a_traced, a_counts, a_left, a_right, a_level) r_240)) (f_stages, f_nodes, f_built, f_address, f_next, f_gates, f_top, a_kind, a_second, a_third, a_stageOf, a_wide, a_first, a_width, a_guess, a_source, a_condition, a_writeStage, a_registers, a_cells, a_number, a_on, a_guessed, a_done, a_seen, a_prepared, a_cell, a_traced, a_counts, a_left, a_right, a_level) r_103 (nI (ga_t fa sb tc n c)))) ∧ (¬ nI (ga_le (kd n)) = 0 → (wX_chain_65 posu (wX_chain_6 posu (nI n) (nI W) (nI (ga_op (kd n))) (nI (ga_le (kd n))) f) (nI n) (nI W) (nI (ga_op (kd n))) (nI (ga_le (kd n))) (nI (ga_t fa sb tc n c)) (nI k) (nI (ga_t fa sb tc n (ga_b kd fa wd (fa n) k))) (nI (ga_t fa sb tc n z)) r_103 f_stages f_nodes f_built f_address f_next f_gates f_top a_kind a_second a_third a_stageOf a_wide a_first a_width a_guess a_source a_condition a_writeStage a_registers a_cells a_number a_on a_guessed a_done a_seen a_prepared a_cell a_traced a_counts a_left a_right a_level))))) (nI st, nI nd, nI bu, xad, nI nx, nI G, nI T, ar_N kd, ar_N sb, ar_N tc, ar_N sg, ar_N wd, ar_N fa, ar_N ww, gs, ar_O so, xcd, xws, ar_N rg, ar_N ce, ar_O nm, xon, xgu, ar_N xdn, ar_N xsn, ar_N xpr, ar_N xcl, xtr, ar_N ct, xlf, xrt, xlv) (nI (ga_t fa sb tc n (ga_b kd fa wd (fa n) k))) (nI (ga_t fa sb tc n z)) → wX_chain_6 posu (nI n) (nI W) (nI (ga_op (kd n))) (nI (ga_le (kd n))) (f + 1) (nI (ga_t fa sb tc n c)) (nI k) (nI st) (nI nd) (nI bu) xad (nI nx) (nI G) (nI T) (ar_N kd) (ar_N sb) (ar_N tc) (ar_N sg) (ar_N wd) (ar_N fa) (ar_N ww) gs (ar_O so) xcd xws (ar_N rg) (ar_N ce) (ar_O nm) xon xgu (ar_N xdn) (ar_N xsn) (ar_N xpr) (ar_N xcl) xtr (ar_N ct) xlf xrt xlv := by
      intro posu f hp
      rw [wX_chain_6]
      refine br_f (nI_ge (by omega) (by omega)) ?_
      refine xq_bit (j := 0) hM hn (by omega) (by omega) (xq_bit (j := 1) hM hn (by omega) (by omega) ?_)
      intro y ey
      have e : y = nI (ga_t fa sb tc n z) := by
        rw [ey, hz]
        by_cases q : kd n = 3
        · rw [if_pos q, show ga_op (kd n) = 0 from if_pos q]
          show nI (ga_t fa sb tc n (ga_b kd fa wd (sb n) k)) ^^^ nI 0 = _
          rw [nx_xor, Nat.xor_zero]
        · rw [if_neg q, show ga_op (kd n) = 1 from if_neg q]
          exact ga_t1I _
      rw [e]
      exact hp
    have hY : ∀ (pos2 : Int32 → SY → Prop) (f : Nat), wY_lower_310 pos2 (wY_lower_172 pos2 (nI n) (nI (kd n)) (nI (fa n)) (nI (sb n)) (nI W) f) (nI n) (nI (kd n)) (nI (fa n)) (nI (sb n)) (nI T) (nI W) (nI c) (nI k) (nI (ga_b kd fa wd (fa n) k)) 0 (nI z) (nI st) (nI nd) (nI bu) yad (nI wk) (nI nx) (nI kc1) (nI kc0) (nI kc2) (nI kc3) (nI kc4) (nI kc5) (nI kc6) (nI kc7) yts (nI gi) (nI G) (ar_N ww) (ar_N rg) (ar_N ce) gs (ar_N kd) (ar_N fa) ybs ycs (ar_N sg) ywd (ar_O so) ycd yws (ar_N nb) (ar_N sy) (ar_N vl) (ar_N pv) (ar_N pc) ygu (ar_N gv) (ar_N dn) (ar_N wo) (ar_N pp) (ar_N yo) (ar_N wh) (ar_N wt) (ar_N wi) (ar_N tr) (ar_N tg) yone ytwo ylv → wY_lower_172 pos2 (nI n) (nI (kd n)) (nI (fa n)) (nI (sb n)) (nI W) (f + 1) (nI T) (nI c) (nI k) (nI st) (nI nd) (nI bu) yad (nI wk) (nI nx) (nI kc1) (nI kc0) (nI kc2) (nI kc3) (nI kc4) (nI kc5) (nI kc6) (nI kc7) yts (nI gi) (nI G) (ar_N ww) (ar_N rg) (ar_N ce) gs (ar_N kd) (ar_N fa) ybs ycs (ar_N sg) ywd (ar_O so) ycd yws (ar_N nb) (ar_N sy) (ar_N vl) (ar_N pv) (ar_N pc) ygu (ar_N gv) (ar_N dn) (ar_N wo) (ar_N pp) (ar_N yo) (ar_N wh) (ar_N wt) (ar_N wi) (ar_N tr) (ar_N tg) yone ytwo ylv := by
      intro pos2 f hp
      rw [wY_lower_172]
      refine br_f (nI_ge (by omega) (by omega)) ?_
      refine yq_bit hM hwd (by omega) (by omega) (yq_bit hM hwd (by omega) (by omega) ?_)
      refine br_f (nk (q := 5) (by omega) (by omega)) (br_f (nk (q := 6) (by omega) (by omega)) (br_f (nk (q := 9) (by omega) (by omega)) (br_f (nk (q := 8) (by omega) (by omega)) ?_)))
      refine pk_eq (kd n) 3 (fun q => ?_) (fun q => ?_)
      · rw [hz, if_pos q] at hp; exact hp
      · rw [hz, if_neg q] at hp
        rw [ga_x1I]
        exact hp
    -- the carry, behind what is made
    have tail : ∀ (m G2 : Nat) (o12 o22 ly2 : Nat → Nat) (xlf2 xrt2 xlv2 yone2 ytwo2 ylv2 : Nat → Int32), ga_R fa sb tc n G2 o12 o22 ly2 xlf2 xrt2 xlv2 yone2 ytwo2 ylv2 → G1 ≤ G2 → G2 ≤ 9 * k + 6 → (∀ g, g < G1 → ly2 g = ly1 g) → ga_v fa sb tc n G2 m → ga_l ly2 m ≤ 2 * k + 4 → (kd n = 7 → m = 0) →
        ∃ (T' G' : Nat) (xlf' xrt' xlv' yone' ytwo' ylv' : Nat → Int32), (∀ i, i < 50 → xlv' i = 0) ∧ (∀ posu : SX → Prop, posu (nI st, nI nd, nI bu, xad, nI nx, nI G', nI T', ar_N kd, ar_N sb, ar_N tc, ar_N sg, ar_N wd, ar_N fa, ar_N ww, gs, ar_O so, xcd, xws, ar_N rg, ar_N ce, ar_O nm, xon, xgu, ar_N xdn, ar_N xsn, ar_N xpr, ar_N xcl, xtr, ar_N ct, xlf', xrt', xlv') → wX_chain_81 posu (wX_chain_6 posu (nI n) (nI W) (nI (ga_op (kd n))) (nI (ga_le (kd n))) (d + 1)) (nI n) (nI W) (nI (ga_op (kd n))) (nI (ga_le (kd n))) (nI (ga_t fa sb tc n c)) (nI k) (nI (ga_t fa sb tc n (ga_b kd fa wd (fa n) k))) (nI (ga_t fa sb tc n z)) (nI (ga_t fa sb tc n c1)) (nI st) (nI nd) (nI bu) xad (nI nx) (nI G2) (nI (ga_m T (ga_l ly2 m))) (ar_N kd) (ar_N sb) (ar_N tc) (ar_N sg) (ar_N wd) (ar_N fa) (ar_N ww) gs (ar_O so) xcd xws (ar_N rg) (ar_N ce) (ar_O nm) xon xgu (ar_N xdn) (ar_N xsn) (ar_N xpr) (ar_N xcl) xtr (ar_N ct) xlf2 xrt2 xlv2) ∧ (∀ pos2 : Int32 → SY → Prop, pos2 (nI T') (nI st, nI nd, nI bu, yad, nI wk, nI nx, nI kc1, nI kc0, nI kc2, nI kc3, nI kc4, nI kc5, nI kc6, nI kc7, yts, nI gi, nI G', ar_N ww, ar_N rg, ar_N ce, gs, ar_N kd, ar_N fa, ybs, ycs, ar_N sg, ywd, ar_O so, ycd, yws, ar_N nb, ar_N sy, ar_N vl, ar_N pv, ar_N pc, ygu, ar_N gv, ar_N dn, ar_N wo, ar_N pp, ar_N yo, ar_N wh, ar_N wt, ar_N wi, ar_N tr, ar_N tg, yone', ytwo', ylv') → wY_lower_353 pos2 (wY_lower_172 pos2 (nI n) (nI (kd n)) (nI (fa n)) (nI (sb n)) (nI W) (d + 1)) (nI n) (nI (kd n)) (nI (fa n)) (nI (sb n)) (nI T) (nI W) (nI c) (nI k) (nI (ga_b kd fa wd (fa n) k)) (nI m) (nI z) (nI c1) (nI st) (nI nd) (nI bu) yad (nI wk) (nI nx) (nI kc1) (nI kc0) (nI kc2) (nI kc3) (nI kc4) (nI kc5) (nI kc6) (nI kc7) yts (nI gi) (nI G2) (ar_N ww) (ar_N rg) (ar_N ce) gs (ar_N kd) (ar_N fa) ybs ycs (ar_N sg) ywd (ar_O so) ycd yws (ar_N nb) (ar_N sy) (ar_N vl) (ar_N pv) (ar_N pc) ygu (ar_N gv) (ar_N dn) (ar_N wo) (ar_N pp) (ar_N yo) (ar_N wh) (ar_N wt) (ar_N wi) (ar_N tr) (ar_N tg) yone2 ytwo2 ylv2) := by
      intro m G2 o12 o22 ly2 xlf2 xrt2 xlv2 yone2 ytwo2 ylv2 s1 s2 s3 s4 s5 s6 s7
      have v1 : ga_v fa sb tc n G2 c1 := ga_vm p4 s2
      have vc : ga_v fa sb tc n G2 c := ga_vm hc (by omega)
      have l1 : ga_l ly2 c1 ≤ 2 := by rw [ga_lm p4 s4]; exact p6
      have lcc : ga_l ly2 c ≤ 2 * k + 2 := by
        rw [ga_lm (ga_vm hc p3) s4, ga_lm hc p2]; exact lc
      obtain ⟨c3, G3, o13, o23, ly3, xlf3, xrt3, xlv3, yone3, ytwo3, ylv3, q1, q2, q3, q4, q5, q6, q7, q8⟩ := pr_and (xto := nI (ga_m T (ga_l ly2 m))) (a := (ga_b kd fa wd (fa n) k)) (b := z) (L := 0) s1 (ga_vm vA.1 (by omega)) (ga_vm zv (by omega)) (by have := ga_b0 ly2 vA.2; exact Nat.le_of_eq this) (by rw [zl]; omega) (by omega) (by omega)
      obtain ⟨c4, G4, o14, o24, ly4, xlf4, xrt4, xlv4, yone4, ytwo4, ylv4, t1, t2, t3, t4, t5, t6, t7, t8⟩ := pr_and (xto := nI (ga_m T (ga_l ly2 m))) (a := c1) (b := c) (L := 2 * k + 2) q1 (ga_vm v1 q3) (ga_vm vc q3) (by rw [ga_lm v1 q2]; omega) (by rw [ga_lm vc q2]; exact lcc) (by omega) (by omega)
      obtain ⟨c5, G5, o15, o25, ly5, xlf5, xrt5, xlv5, yone5, ytwo5, ylv5, u1, u2, u3, u4, u5, u6, u7, u8⟩ := pr_or (xto := nI (ga_m T (ga_l ly2 m))) (a := c3) (b := c4) (L := 2 * k + 3) t1 (ga_vm q4 t3) t4 (by rw [ga_lm q4 t2]; omega) t6 (by omega) (by omega)
      have lm : ga_l ly5 m = ga_l ly2 m := by
        rw [ga_lm (ga_vm s5 (show G2 ≤ G4 by omega)) u2, ga_lm (ga_vm s5 q3) t2, ga_lm s5 q2]
      have vm5 : ga_v fa sb tc n G5 m := ga_vm s5 (by omega)
      have Tb : ga_m T (ga_l ly2 m) ≤ 2 * (k + 1) + 4 := by unfold ga_m; split <;> omega
      obtain ⟨T', G', xlf', xrt', xlv', yone', ytwo', ylv', i1, i2, i3⟩ := ih (k + 1) c5 (ga_m T (ga_l ly2 m)) G5 o15 o25 ly5 xlf5 xrt5 xlv5 yone5 ytwo5 ylv5 (by omega) u1 u4 (by omega) (by omega) Tb (fun q => by
        rw [s7 q, h7 q]; rfl)
      refine ⟨T', G', xlf', xrt', xlv', yone', ytwo', ylv', i1, fun posu hp => ?_, fun pos2 hp => ?_⟩
      · unfold wX_chain_81
        refine q7 _ (t7 _ (u7 _ ?_))
        intro w ew
        rw [ew, nI_1]
        exact i2 posu hp
      · unfold wY_lower_353
        refine q8 _ (t8 _ (u8 _ ?_))
        refine yq_383 u1 vm5 (by omega) (by omega) (by omega) ?_
        rw [lm]
        exact i3 pos2 hp
    by_cases k7 : kd n = 7
    · obtain ⟨T', G', xlf', xrt', xlv', yone', ytwo', ylv', i1, i2, i3⟩ := tail 0 G1 o11 o21 ly1 xlf1 xrt1 xlv1 yone1 ytwo1 ylv1 p1 (Nat.le_refl _) (by omega) (fun _ _ => rfl) (Or.inl (by omega)) (by unfold ga_l; rw [if_pos (by omega)]; omega) (fun _ => rfl)
      have T0 := h7 k7
      refine ⟨T', G', xlf', xrt', xlv', yone', ytwo', ylv', i1, fun posu hp => hX posu _ (p7 _ ?_), fun pos2 hp => hY pos2 _ ?_⟩
      · refine br_f (less1 k7) ?_
        unfold wX_chain_65
        refine br_f (less1 k7) ?_
        have i2 := i2 posu hp
        rw [T0, show ga_m 0 (ga_l ly1 0) = 0 from rfl] at i2
        rw [T0]
        exact i2
      · unfold wY_lower_310
        refine p8 _ (br_t (by rw [k7]; rfl) ?_)
        unfold wY_lower_338
        refine br_t (by rw [k7]; rfl) ?_
        exact i3 pos2 hp
    · obtain ⟨c2, G2, o12, o22, ly2, xlf2, xrt2, xlv2, yone2, ytwo2, ylv2, s1, s2, s3, s4, s5, s6, s7, s8⟩ := pr_xor (xto := nI T) (a := c1) (b := c) (L := 2 * k + 2) p1 p4 (ga_vm hc p3) (by omega) (by rw [ga_lm hc p2]; exact lc) (by omega) (by omega)
      by_cases last : k + 1 = W
      · obtain ⟨T', G', xlf', xrt', xlv', yone', ytwo', ylv', i1, i2, i3⟩ := ih (k + 1) c (ga_m T (ga_l ly2 c2)) G2 o12 o22 ly2 xlf2 xrt2 xlv2 yone2 ytwo2 ylv2 (by omega) s1 (ga_vm hc (by omega)) (by rw [ga_lm (ga_vm hc p3) s2, ga_lm hc p2]; omega) (by omega) (by unfold ga_m; split <;> omega) (fun q => absurd q k7)
        refine ⟨T', G', xlf', xrt', xlv', yone', ytwo', ylv', i1, fun posu hp => hX posu _ (p7 _ ?_), fun pos2 hp => hY pos2 _ ?_⟩
        · refine br_t (less0 k7) (s7 _ ?_)
          refine xq_tell s1 s4 (by omega) (by omega) (by omega) ?_
          unfold wX_chain_65
          refine br_t (less0 k7) (br_t (by rw [nI_1, last]) (fun w ew => ?_))
          rw [ew, nI_1]
          exact i2 posu hp
        · unfold wY_lower_310
          refine p8 _ (br_f (nk (q := 7) (by omega) k7) (s8 _ ?_))
          unfold wY_lower_338
          refine br_f (nk (q := 7) (by omega) k7) (br_t ?_ ?_)
          · rw [show nI W - 1 = ar_i W from ar_sub1 W, ar_ile (by omega) (by omega)]; omega
          · exact yq_383 s1 s4 (by omega) (by omega) (by omega) (i3 pos2 hp)
      · obtain ⟨T', G', xlf', xrt', xlv', yone', ytwo', ylv', i1, i2, i3⟩ := tail c2 G2 o12 o22 ly2 xlf2 xrt2 xlv2 yone2 ytwo2 ylv2 s1 s3 (by omega) s2 s4 (by omega) (fun q => absurd q k7)
        refine ⟨T', G', xlf', xrt', xlv', yone', ytwo', ylv', i1, fun posu hp => hX posu _ (p7 _ ?_), fun pos2 hp => hY pos2 _ ?_⟩
        · refine br_t (less0 k7) (s7 _ ?_)
          refine xq_tell s1 s4 (by omega) (by omega) (by omega) ?_
          unfold wX_chain_65
          refine br_t (less0 k7) (br_f (by rw [nI_1, nI_eq (by omega) (by omega)]; exact last) ?_)
          exact i2 posu hp
        · unfold wY_lower_310
          refine p8 _ (br_f (nk (q := 7) (by omega) k7) (s8 _ ?_))
          unfold wY_lower_338
          refine br_f (nk (q := 7) (by omega) k7) (br_f ?_ ?_)
          · rw [show nI W - 1 = ar_i W from ar_sub1 W, ar_ile (by omega) (by omega)]; omega
          · exact i3 pos2 hp
end
end
section
/-! same, pick; a node is lowered -/
section
variable {st nd bu nx wk kc1 kc0 kc2 kc3 kc4 kc5 kc6 kc7 gi ad : Nat} {xad xga xto yad yts yga : Int32} {kd sb tc sg wd fa ww so rg ce nm xdn xsn xpr xcl ct nb sy vl pv pc gv dn wo pp yo wh wt wi tr tg cd ws : Nat → Nat} {gs xcd xws xon xgu xlf xrt xlv ybs ycs ywd ycd yws ygu yone ytwo ylv : Nat → Int32} {xtr : Nat → Int64}
variable {n W : Nat}
theorem pr_loC (hM : re_M st nd kd fa sb tc sg wd ww so cd ws ad gs xcd xws ycd yws ybs ycs xad yad) (hwd : ∀ n, n < nd → ywd n = nI (wd n)) (hn : n < nd) (hk : kd n = 8) (hW : W ≤ 16) : ∀ d k c (G : Nat) (o1 o2 ly : Nat → Nat) (xlf xrt xlv yone ytwo ylv : Nat → Int32), k + d = W → ga_R fa sb tc n G o1 o2 ly xlf xrt xlv yone ytwo ylv → ga_v fa sb tc n G c → ga_l ly c ≤ k + 2 → G ≤ 4 * k →
    ∃ (T' G' : Nat) (xlf' xrt' xlv' yone' ytwo' ylv' : Nat → Int32), (∀ i, i < 50 → xlv' i = 0) ∧ (∀ posu : SX → Prop, posu (nI st, nI nd, nI bu, xad, nI nx, nI G', nI T', ar_N kd, ar_N sb, ar_N tc, ar_N sg, ar_N wd, ar_N fa, ar_N ww, gs, ar_O so, xcd, xws, ar_N rg, ar_N ce, ar_O nm, xon, xgu, ar_N xdn, ar_N xsn, ar_N xpr, ar_N xcl, xtr, ar_N ct, xlf', xrt', xlv') → wX_same_5 posu (nI n) (nI W) (d + 1) (nI (ga_t fa sb tc n c)) (nI k) (nI st) (nI nd) (nI bu) xad (nI nx) (nI G) (nI 0) (ar_N kd) (ar_N sb) (ar_N tc) (ar_N sg) (ar_N wd) (ar_N fa) (ar_N ww) gs (ar_O so) xcd xws (ar_N rg) (ar_N ce) (ar_O nm) xon xgu (ar_N xdn) (ar_N xsn) (ar_N xpr) (ar_N xcl) xtr (ar_N ct) xlf xrt xlv) ∧ (∀ pos2 : Int32 → SY → Prop, pos2 (nI T') (nI st, nI nd, nI bu, yad, nI wk, nI nx, nI kc1, nI kc0, nI kc2, nI kc3, nI kc4, nI kc5, nI kc6, nI kc7, yts, nI gi, nI G', ar_N ww, ar_N rg, ar_N ce, gs, ar_N kd, ar_N fa, ybs, ycs, ar_N sg, ywd, ar_O so, ycd, yws, ar_N nb, ar_N sy, ar_N vl, ar_N pv, ar_N pc, ygu, ar_N gv, ar_N dn, ar_N wo, ar_N pp, ar_N yo, ar_N wh, ar_N wt, ar_N wi, ar_N tr, ar_N tg, yone', ytwo', ylv') → wY_lower_172 pos2 (nI n) (nI (kd n)) (nI (fa n)) (nI (sb n)) (nI W) (d + 1) (nI 0) (nI c) (nI k) (nI st) (nI nd) (nI bu) yad (nI wk) (nI nx) (nI kc1) (nI kc0) (nI kc2) (nI kc3) (nI kc4) (nI kc5) (nI kc6) (nI kc7) yts (nI gi) (nI G) (ar_N ww) (ar_N rg) (ar_N ce) gs (ar_N kd) (ar_N fa) ybs ycs (ar_N sg) ywd (ar_O so) ycd yws (ar_N nb) (ar_N sy) (ar_N vl) (ar_N pv) (ar_N pc) ygu (ar_N gv) (ar_N dn) (ar_N wo) (ar_N pp) (ar_N yo) (ar_N wh) (ar_N wt) (ar_N wi) (ar_N tr) (ar_N tg) yone ytwo ylv) := by
  have hst := hM.1
  obtain ⟨b1, b2, b3, b4, b5, b6, -⟩ := hM.2.1 n hn
  have a4 := b4 (by omega)
  have a5 := (b5 (by omega)).1
  have o2' : re_op (kd n) = 2 := by rw [hk]; rfl
  have nk : ∀ {q : Nat}, q < 10 → ¬ kd n = q → ¬ nI (kd n) = nI q := fun h1 h2 => by rw [nI_eq (by omega) (by omega)]; exact h2
  have k8 : nI (kd n) = 8 := by rw [hk]; rfl
  intro d
  induction d with
  | zero =>
    intro k c G o1 o2 ly xlf xrt xlv yone ytwo ylv hkd hR hc lc hG
    refine ⟨ga_l ly c, G, xlf, xrt, xlv, yone, ytwo, ylv, hR.2, fun posu hp => ?_, fun pos2 hp => ?_⟩
    · rw [wX_same_5]
      refine br_t (nI_le (by omega) (by omega)) ?_
      refine xq_tell hR hc (by omega) (by omega) (by omega) ?_
      rw [show ga_m 0 (ga_l ly c) = ga_l ly c by unfold ga_m; rw [if_pos (by omega)]]
      exact hp
    · rw [wY_lower_172]
      refine br_t (nI_le (by omega) (by omega)) (br_f (nk (q := 7) (by omega) (by omega)) (br_t k8 ?_))
      unfold wY_lower_420
      exact yq_levelOf hR hc (by omega) hp
  | succ d ih =>
    intro k c G o1 o2 ly xlf xrt xlv yone ytwo ylv hkd hR hc lc hG
    have vA := ga_bv (G := G) (k := k) (j := 0) hM hn (by omega)
    have vB := ga_bv (G := G) (k := k) (j := 1) hM hn (by omega)
    obtain ⟨c1, G1, o11, o21, ly1, xlf1, xrt1, xlv1, yone1, ytwo1, ylv1, p1, p2, p3, p4, p5, p6, p7, p8⟩ := pr_xor (xto := nI 0) (L := 0) hR vA.1 vB.1 (by have := ga_b0 ly vA.2; exact Nat.le_of_eq this) (by have := ga_b0 ly vB.2; exact Nat.le_of_eq this) (by omega) (by omega)
    obtain ⟨c2, G2, o12, o22, ly2, xlf2, xrt2, xlv2, yone2, ytwo2, ylv2, s1, s2, s3, s4, s5, s6, s7, s8⟩ := pr_and (xto := nI 0) (a := c) (b := ga_n c1) (L := k + 2) p1 (ga_vm hc p3) (ga_vn p4) (by rw [ga_lm hc p2]; exact lc) (by rw [ga_ln]; omega) (by omega) (by omega)
    obtain ⟨T', G', xlf', xrt', xlv', yone', ytwo', ylv', i1, i2, i3⟩ := ih (k + 1) c2 G2 o12 o22 ly2 xlf2 xrt2 xlv2 yone2 ytwo2 ylv2 (by omega) s1 s4 (by omega) (by omega)
    refine ⟨T', G', xlf', xrt', xlv', yone', ytwo', ylv', i1, fun posu hp => ?_, fun pos2 hp => ?_⟩
    · rw [wX_same_5]
      refine br_f (nI_ge (by omega) (by omega)) ?_
      refine xq_bit (j := 0) hM hn (by omega) (by omega) (xq_bit (j := 1) hM hn (by omega) (by omega) ?_)
      refine p7 _ ?_
      dsimp only
      rw [ga_t1I]
      refine s7 _ ?_
      intro w ew
      rw [ew, nI_1]
      exact i2 posu hp
    · rw [wY_lower_172]
      refine br_f (nI_ge (by omega) (by omega)) ?_
      refine yq_bit hM hwd (by omega) (by omega) (yq_bit hM hwd (by omega) (by omega) ?_)
      refine br_f (nk (q := 5) (by omega) (by omega)) (br_f (nk (q := 6) (by omega) (by omega)) (br_f (nk (q := 9) (by omega) (by omega)) (br_t k8 ?_)))
      refine p8 _ ?_
      dsimp only
      rw [ga_x1I]
      refine s8 _ ?_
      refine yq_383 (T := 0) (c := 0) s1 (Or.inl (by omega)) (by omega) (by omega) (by unfold ga_l; rw [if_pos (by omega)]; omega) ?_
      rw [show ga_m 0 (ga_l ly2 0) = 0 from rfl]
      exact i3 pos2 hp
theorem pr_loE (hM : re_M st nd kd fa sb tc sg wd ww so cd ws ad gs xcd xws ycd yws ybs ycs xad yad) (hwd : ∀ n, n < nd → ywd n = nI (wd n)) (hn : n < nd) (hk : kd n = 9) {t : Nat} : ∀ d k (T G : Nat) (o1 o2 ly : Nat → Nat) (xlf xrt xlv yone ytwo ylv : Nat → Int32), k + d = wd n → ga_R fa sb tc n G o1 o2 ly xlf xrt xlv yone ytwo ylv → ga_v fa sb tc n G t → ga_l ly t ≤ 16 → G ≤ 16 + 3 * k → T ≤ 18 →
    ∃ (T' G' : Nat) (xlf' xrt' xlv' yone' ytwo' ylv' : Nat → Int32), (∀ i, i < 50 → xlv' i = 0) ∧ (∀ posu : SX → Prop, posu (nI st, nI nd, nI bu, xad, nI nx, nI G', nI T', ar_N kd, ar_N sb, ar_N tc, ar_N sg, ar_N wd, ar_N fa, ar_N ww, gs, ar_O so, xcd, xws, ar_N rg, ar_N ce, ar_O nm, xon, xgu, ar_N xdn, ar_N xsn, ar_N xpr, ar_N xcl, xtr, ar_N ct, xlf', xrt', xlv') → wX_pick_50 posu (nI n) (nI (ga_t fa sb tc n t)) (d + 1) (nI k) (nI st) (nI nd) (nI bu) xad (nI nx) (nI G) (nI T) (ar_N kd) (ar_N sb) (ar_N tc) (ar_N sg) (ar_N wd) (ar_N fa) (ar_N ww) gs (ar_O so) xcd xws (ar_N rg) (ar_N ce) (ar_O nm) xon xgu (ar_N xdn) (ar_N xsn) (ar_N xpr) (ar_N xcl) xtr (ar_N ct) xlf xrt xlv) ∧ (∀ pos2 : Int32 → SY → Prop, pos2 (nI T') (nI st, nI nd, nI bu, yad, nI wk, nI nx, nI kc1, nI kc0, nI kc2, nI kc3, nI kc4, nI kc5, nI kc6, nI kc7, yts, nI gi, nI G', ar_N ww, ar_N rg, ar_N ce, gs, ar_N kd, ar_N fa, ybs, ycs, ar_N sg, ywd, ar_O so, ycd, yws, ar_N nb, ar_N sy, ar_N vl, ar_N pv, ar_N pc, ygu, ar_N gv, ar_N dn, ar_N wo, ar_N pp, ar_N yo, ar_N wh, ar_N wt, ar_N wi, ar_N tr, ar_N tg, yone', ytwo', ylv') → wY_lower_172 pos2 (nI n) (nI (kd n)) (nI (fa n)) (nI (sb n)) (nI (wd n)) (d + 1) (nI T) (nI t) (nI k) (nI st) (nI nd) (nI bu) yad (nI wk) (nI nx) (nI kc1) (nI kc0) (nI kc2) (nI kc3) (nI kc4) (nI kc5) (nI kc6) (nI kc7) yts (nI gi) (nI G) (ar_N ww) (ar_N rg) (ar_N ce) gs (ar_N kd) (ar_N fa) ybs ycs (ar_N sg) ywd (ar_O so) ycd yws (ar_N nb) (ar_N sy) (ar_N vl) (ar_N pv) (ar_N pc) ygu (ar_N gv) (ar_N dn) (ar_N wo) (ar_N pp) (ar_N yo) (ar_N wh) (ar_N wt) (ar_N wi) (ar_N tr) (ar_N tg) yone ytwo ylv) := by
  have hst := hM.1
  have bn := vp_in_nI (show n < 24 by omega) (show 24 < 2 ^ 31 by omega)
  have h16 := re_w16 hM n hn
  obtain ⟨b1, b2, b3, b4, b5, b6, -⟩ := hM.2.1 n hn
  have a4 := b4 (by omega)
  have a5 := (b5 (by omega)).1
  obtain ⟨a6, e6⟩ := b6 hk
  have o3' : re_op (kd n) = 3 := by rw [hk]; rfl
  have nk : ∀ {q : Nat}, q < 10 → ¬ kd n = q → ¬ nI (kd n) = nI q := fun h1 h2 => by rw [nI_eq (by omega) (by omega)]; exact h2
  have k9 : nI (kd n) = 9 := by rw [hk]; rfl
  intro d
  induction d with
  | zero =>
    intro k T G o1 o2 ly xlf xrt xlv yone ytwo ylv hkd hR ht lt hG hT
    refine ⟨T, G, xlf, xrt, xlv, yone, ytwo, ylv, hR.2, fun posu hp => ?_, fun pos2 hp => ?_⟩
    · rw [wX_pick_50]
      refine ⟨bn, ?_⟩
      rw [nI_clamp (by omega), ar_Nap]
      exact br_t (nI_le (by omega) (by omega)) hp
    · rw [wY_lower_172]
      exact br_t (nI_le (by omega) (by omega)) (br_f (nk (q := 7) (by omega) (by omega)) (br_f (nk (q := 8) (by omega) (by omega)) hp))
  | succ d ih =>
    intro k T G o1 o2 ly xlf xrt xlv yone ytwo ylv hkd hR ht lt hG hT
    have vB := ga_bv (G := G) (k := k) (j := 1) hM hn (by omega)
    have vC := ga_bv (G := G) (k := k) (j := 2) hM hn (by omega)
    obtain ⟨c1, G1, o11, o21, ly1, xlf1, xrt1, xlv1, yone1, ytwo1, ylv1, p1, p2, p3, p4, p5, p6, p7, p8⟩ := pr_and (xto := nI T) (a := t) (b := (ga_b kd fa wd (sb n) k)) (L := 16) hR ht vB.1 lt (by have := ga_b0 ly vB.2; exact Nat.le_trans (Nat.le_of_eq this) (by omega)) (by omega) (by omega)
    obtain ⟨c2, G2, o12, o22, ly2, xlf2, xrt2, xlv2, yone2, ytwo2, ylv2, s1, s2, s3, s4, s5, s6, s7, s8⟩ := pr_and (xto := nI T) (a := ga_n t) (b := (ga_b kd fa wd (tc n) k)) (L := 16) p1 (ga_vn (ga_vm ht p3)) (ga_vm vC.1 p3) (by rw [ga_ln, ga_lm ht p2]; exact lt) (by have := ga_b0 ly1 vC.2; exact Nat.le_trans (Nat.le_of_eq this) (by omega)) (by omega) (by omega)
    obtain ⟨c3, G3, o13, o23, ly3, xlf3, xrt3, xlv3, yone3, ytwo3, ylv3, u1, u2, u3, u4, u5, u6, u7, u8⟩ := pr_or (xto := nI T) (a := c1) (b := c2) (L := 17) s1 (ga_vm p4 s3) s4 (by rw [ga_lm p4 s2]; exact p6) s6 (by omega) (by omega)
    obtain ⟨T', G', xlf', xrt', xlv', yone', ytwo', ylv', i1, i2, i3⟩ := ih (k + 1) (ga_m T (ga_l ly3 c3)) G3 o13 o23 ly3 xlf3 xrt3 xlv3 yone3 ytwo3 ylv3 (by omega) u1 (ga_vm ht (by omega)) (by rw [ga_lm (ga_vm ht (show G ≤ G2 by omega)) u2, ga_lm (ga_vm ht p3) s2, ga_lm ht p2]; exact lt) (by omega) (by unfold ga_m; split <;> omega)
    refine ⟨T', G', xlf', xrt', xlv', yone', ytwo', ylv', i1, fun posu hp => ?_, fun pos2 hp => ?_⟩
    · rw [wX_pick_50]
      refine ⟨bn, ?_⟩
      rw [nI_clamp (by omega), ar_Nap]
      refine br_f (nI_ge (by omega) (by omega)) ?_
      refine xq_bit (j := 1) hM hn (by omega) (by omega) (xq_bit (j := 2) hM hn (by omega) (by omega) ?_)
      refine p7 _ ?_
      dsimp only
      rw [ga_t1I]
      refine s7 _ (u7 _ ?_)
      refine xq_tell u1 u4 (by omega) (by omega) (by omega) ?_
      intro w ew
      rw [ew, nI_1]
      exact i2 posu hp
    · rw [wY_lower_172]
      refine br_f (nI_ge (by omega) (by omega)) ?_
      refine yq_bit hM hwd (by omega) (by omega) (yq_bit hM hwd (by omega) (by omega) ?_)
      refine br_f (nk (q := 5) (by omega) (by omega)) (br_f (nk (q := 6) (by omega) (by omega)) (br_t k9 ⟨bn, ?_⟩))
      rw [nI_clamp (by omega), e6]
      unfold wpY_pick
      dsimp only
      refine yq_bit hM hwd (by omega) (by omega) ?_
      refine p8 _ ?_
      dsimp only
      rw [ga_x1I]
      refine s8 _ (u8 _ ?_)
      exact yq_383 u1 u4 (by omega) (by omega) (by omega) (i3 pos2 hp)
theorem pr_loD (hM : re_M st nd kd fa sb tc sg wd ww so cd ws ad gs xcd xws ycd yws ybs ycs xad yad) (hwd : ∀ n, n < nd → ywd n = nI (wd n)) (hn : n < nd) (hk : kd n = 9) : ∀ d k c (G : Nat) (o1 o2 ly : Nat → Nat) (xlf xrt xlv yone ytwo ylv : Nat → Int32), k + d = wd (fa n) → 1 ≤ k → ga_R fa sb tc n G o1 o2 ly xlf xrt xlv yone ytwo ylv → ga_v fa sb tc n G c → ga_l ly c ≤ k → G ≤ k →
    ∃ (T' G' : Nat) (xlf' xrt' xlv' yone' ytwo' ylv' : Nat → Int32), (∀ i, i < 50 → xlv' i = 0) ∧ (∀ posu : SX → Prop, posu (nI st, nI nd, nI bu, xad, nI nx, nI G', nI T', ar_N kd, ar_N sb, ar_N tc, ar_N sg, ar_N wd, ar_N fa, ar_N ww, gs, ar_O so, xcd, xws, ar_N rg, ar_N ce, ar_O nm, xon, xgu, ar_N xdn, ar_N xsn, ar_N xpr, ar_N xcl, xtr, ar_N ct, xlf', xrt', xlv') → wX_pick_10 posu (nI n) (d + 1) (nI (ga_t fa sb tc n c)) (nI k) (nI st) (nI nd) (nI bu) xad (nI nx) (nI G) (nI 0) (ar_N kd) (ar_N sb) (ar_N tc) (ar_N sg) (ar_N wd) (ar_N fa) (ar_N ww) gs (ar_O so) xcd xws (ar_N rg) (ar_N ce) (ar_O nm) xon xgu (ar_N xdn) (ar_N xsn) (ar_N xpr) (ar_N xcl) xtr (ar_N ct) xlf xrt xlv) ∧ (∀ pos2 : Int32 → SY → Prop, pos2 (nI T') (nI st, nI nd, nI bu, yad, nI wk, nI nx, nI kc1, nI kc0, nI kc2, nI kc3, nI kc4, nI kc5, nI kc6, nI kc7, yts, nI gi, nI G', ar_N ww, ar_N rg, ar_N ce, gs, ar_N kd, ar_N fa, ybs, ycs, ar_N sg, ywd, ar_O so, ycd, yws, ar_N nb, ar_N sy, ar_N vl, ar_N pv, ar_N pc, ygu, ar_N gv, ar_N dn, ar_N wo, ar_N pp, ar_N yo, ar_N wh, ar_N wt, ar_N wi, ar_N tr, ar_N tg, yone', ytwo', ylv') → wY_lower_112 pos2 (nI n) (nI (kd n)) (nI (fa n)) (nI (sb n)) (nI 0) (d + 1) (nI c) (nI k) (nI st) (nI nd) (nI bu) yad (nI wk) (nI nx) (nI kc1) (nI kc0) (nI kc2) (nI kc3) (nI kc4) (nI kc5) (nI kc6) (nI kc7) yts (nI gi) (nI G) (ar_N ww) (ar_N rg) (ar_N ce) gs (ar_N kd) (ar_N fa) ybs ycs (ar_N sg) ywd (ar_O so) ycd yws (ar_N nb) (ar_N sy) (ar_N vl) (ar_N pv) (ar_N pc) ygu (ar_N gv) (ar_N dn) (ar_N wo) (ar_N pp) (ar_N yo) (ar_N wh) (ar_N wt) (ar_N wi) (ar_N tr) (ar_N tg) yone ytwo ylv) := by
  have hst := hM.1
  have bn := vp_in_nI (show n < 24 by omega) (show 24 < 2 ^ 31 by omega)
  have h16n := re_w16 hM n hn
  obtain ⟨b1, b2, b3, b4, b5, b6, -⟩ := hM.2.1 n hn
  have a4 := b4 (by omega)
  have ba := vp_in_nI (show fa n < 24 by omega) (show 24 < 2 ^ 31 by omega)
  have h16 := re_w16 hM (fa n) (by omega)
  have o3' : re_op (kd n) = 3 := by rw [hk]; rfl
  have k5 : ¬ nI (kd n) = 5 := by rw [hk]; decide
  have n0 : re_nm fa sb tc n 0 = fa n := rfl
  intro d
  induction d with
  | zero =>
    intro k c G o1 o2 ly xlf xrt xlv yone ytwo ylv hkd hk1 hR hc lc hG
    obtain ⟨T', G', xlf', xrt', xlv', yone', ytwo', ylv', i1, i2, i3⟩ := pr_loE (t := c) hM hwd hn hk (wd n) 0 0 G o1 o2 ly xlf xrt xlv yone ytwo ylv (by omega) hR hc (by omega) (by omega) (by omega)
    refine ⟨T', G', xlf', xrt', xlv', yone', ytwo', ylv', i1, fun posu hp => ?_, fun pos2 hp => ?_⟩
    · rw [wX_pick_10]
      refine xq_named (j := 0) (by omega) (by omega) ?_
      rw [n0]
      refine ⟨ba, ?_⟩
      rw [nI_clamp (by omega), ar_Nap]
      exact br_t (nI_le (by omega) (by omega)) ⟨_, i2 posu hp⟩
    · rw [wY_lower_112]
      refine ⟨ba, ?_⟩
      rw [nI_clamp (by omega), nI_clamp (by omega), hwd _ (by omega), hwd n hn]
      refine br_t (nI_le (by omega) (by omega)) ⟨bn, fun y ey => ?_⟩
      rw [ey]
      unfold wY_lower_156
      exact br_f k5 ⟨_, i3 pos2 hp⟩
  | succ d ih =>
    intro k c G o1 o2 ly xlf xrt xlv yone ytwo ylv hkd hk1 hR hc lc hG
    have vA := ga_bv (G := G) (k := k) (j := 0) hM hn (by omega)
    obtain ⟨c1, G1, o11, o21, ly1, xlf1, xrt1, xlv1, yone1, ytwo1, ylv1, p1, p2, p3, p4, p5, p6, p7, p8⟩ := pr_or (xto := nI 0) (a := c) (b := (ga_b kd fa wd (fa n) k)) (L := k) hR hc vA.1 lc (by have := ga_b0 ly vA.2; exact Nat.le_trans (Nat.le_of_eq this) (by omega)) (by omega) (by omega)
    obtain ⟨T', G', xlf', xrt', xlv', yone', ytwo', ylv', i1, i2, i3⟩ := ih (k + 1) c1 G1 o11 o21 ly1 xlf1 xrt1 xlv1 yone1 ytwo1 ylv1 (by omega) (by omega) p1 p4 p6 (by omega)
    refine ⟨T', G', xlf', xrt', xlv', yone', ytwo', ylv', i1, fun posu hp => ?_, fun pos2 hp => ?_⟩
    · rw [wX_pick_10]
      refine xq_named (j := 0) (by omega) (by omega) ?_
      rw [n0]
      refine ⟨ba, ?_⟩
      rw [nI_clamp (by omega), ar_Nap]
      refine br_f (nI_ge (by omega) (by omega)) ?_
      refine xq_bit (j := 0) hM hn (by omega) (by omega) ?_
      refine p7 _ ?_
      intro w ew
      rw [ew, nI_1]
      exact i2 posu hp
    · rw [wY_lower_112]
      refine ⟨ba, ?_⟩
      rw [nI_clamp (by omega), nI_clamp (by omega), hwd _ (by omega), hwd n hn]
      refine br_f (nI_ge (by omega) (by omega)) ?_
      refine yq_bit hM hwd (by omega) (by omega) ?_
      refine p8 _ ?_
      intro w ew
      rw [ew, nI_1]
      exact i3 pos2 hp
/-- a node is lowered -/
theorem pr_lower (hM : re_M st nd kd fa sb tc sg wd ww so cd ws ad gs xcd xws ycd yws ybs ycs xad yad) (hwd : ∀ n, n < nd → ywd n = nI (wd n)) (hn : n < nd) (hL : ∀ i, i < 50 → xlv i = 0) :
    ∃ (T' G' : Nat) (xlf' xrt' xlv' yone' ytwo' ylv' : Nat → Int32), (∀ i, i < 50 → xlv' i = 0) ∧ (∀ posu : SX → Prop, posu (nI st, nI nd, nI bu, xad, nI nx, nI G', nI T', ar_N kd, ar_N sb, ar_N tc, ar_N sg, ar_N wd, ar_N fa, ar_N ww, gs, ar_O so, xcd, xws, ar_N rg, ar_N ce, ar_O nm, xon, xgu, ar_N xdn, ar_N xsn, ar_N xpr, ar_N xcl, xtr, ar_N ct, xlf', xrt', xlv') → wpX_lower posu (nI st, nI nd, nI bu, xad, nI nx, xga, xto, ar_N kd, ar_N sb, ar_N tc, ar_N sg, ar_N wd, ar_N fa, ar_N ww, gs, ar_O so, xcd, xws, ar_N rg, ar_N ce, ar_O nm, xon, xgu, ar_N xdn, ar_N xsn, ar_N xpr, ar_N xcl, xtr, ar_N ct, xlf, xrt, xlv) (nI n)) ∧ (∀ pos2 : Int32 → SY → Prop, pos2 (nI T') (nI st, nI nd, nI bu, yad, nI wk, nI nx, nI kc1, nI kc0, nI kc2, nI kc3, nI kc4, nI kc5, nI kc6, nI kc7, yts, nI gi, nI G', ar_N ww, ar_N rg, ar_N ce, gs, ar_N kd, ar_N fa, ybs, ycs, ar_N sg, ywd, ar_O so, ycd, yws, ar_N nb, ar_N sy, ar_N vl, ar_N pv, ar_N pc, ygu, ar_N gv, ar_N dn, ar_N wo, ar_N pp, ar_N yo, ar_N wh, ar_N wt, ar_N wi, ar_N tr, ar_N tg, yone', ytwo', ylv') → wpY_lower pos2 (nI st, nI nd, nI bu, yad, nI wk, nI nx, nI kc1, nI kc0, nI kc2, nI kc3, nI kc4, nI kc5, nI kc6, nI kc7, yts, nI gi, yga, ar_N ww, ar_N rg, ar_N ce, gs, ar_N kd, ar_N fa, ybs, ycs, ar_N sg, ywd, ar_O so, ycd, yws, ar_N nb, ar_N sy, ar_N vl, ar_N pv, ar_N pc, ygu, ar_N gv, ar_N dn, ar_N wo, ar_N pp, ar_N yo, ar_N wh, ar_N wt, ar_N wi, ar_N tr, ar_N tg, yone, ytwo, ylv) (nI n)) := by
  have hst := hM.1
  have bn := vp_in_nI (show n < 24 by omega) (show 24 < 2 ^ 31 by omega)
  have h16n := re_w16 hM n hn
  obtain ⟨b1, b2, b3, b4, b5, b6, b7, b8, b9⟩ := hM.2.1 n hn
  have nk : ∀ {q : Nat}, q < 10 → ¬ kd n = q → ¬ nI (kd n) = nI q := fun h1 h2 => by rw [nI_eq (by omega) (by omega)]; exact h2
  have ek : ∀ {q : Nat}, kd n = q → nI (kd n) = nI q := fun h => by rw [h]
  have R0 : ga_R fa sb tc n 0 (fun _ => 0) (fun _ => 0) (fun _ => 0) xlf xrt xlv yone ytwo ylv := ⟨fun g hg => absurd hg (by omega), hL⟩
  by_cases small : kd n < 3
  · refine ⟨0, 0, xlf, xrt, xlv, yone, ytwo, ylv, hL, fun posu hp => ?_, fun pos2 hp => ?_⟩
    · unfold wpX_lower
      dsimp only
      refine ⟨bn, ?_⟩
      rw [nI_clamp (by omega), ar_Nap]
      refine br_f (nI_ge (b := 3) (by omega) (by omega)) ?_
      unfold wX_lower_49
      refine ⟨bn, fun q eq => ?_⟩
      rw [nI_clamp (by omega), ar_Nap] at eq
      rw [eq]
      refine br_f (nI_pos (by omega)) (br_f (nI_nlt (a := 9) (by omega) (by omega)) ?_)
      refine pk_eq (kd n) 0 (fun _ => hp) (fun k0 => pk_eq (kd n) 1 (fun _ => hp) (fun k1 => ?_))
      exact br_t (by rw [show kd n = 2 by omega]; rfl) hp
    · unfold wpY_lower
      dsimp only
      refine ⟨bn, fun q eq => ⟨bn, fun y ey => ⟨bn, fun z ez => ?_⟩⟩⟩
      rw [nI_clamp (by omega), ar_Nap] at eq
      rw [eq]
      exact br_f (nI_ge (b := 3) (by omega) (by omega)) hp
  have a4 := b4 (by omega)
  obtain ⟨a5, e5⟩ := b5 (by omega)
  have ba := vp_in_nI (show fa n < 24 by omega) (show 24 < 2 ^ 31 by omega)
  have bb := vp_in_nI (show sb n < 24 by omega) (show 24 < 2 ^ 31 by omega)
  have wa := re_w16 hM (fa n) (by omega)
  have wb := re_w16 hM (sb n) (by omega)
  obtain ⟨W, hW⟩ : ∃ W, W = ga_m (wd (fa n)) (wd (sb n)) := ⟨_, rfl⟩
  have hWm := ga_mL (wd (fa n)) (wd (sb n))
  have W16 : W ≤ 16 := by rw [hW]; omega
  -- both heads
  have hX : ∀ posu : SX → Prop, wX_lower_49 posu (nI n) (nI W) (nI st) (nI nd) (nI bu) xad (nI nx) (nI 0) (nI 0) (ar_N kd) (ar_N sb) (ar_N tc) (ar_N sg) (ar_N wd) (ar_N fa) (ar_N ww) gs (ar_O so) xcd xws (ar_N rg) (ar_N ce) (ar_O nm) xon xgu (ar_N xdn) (ar_N xsn) (ar_N xpr) (ar_N xcl) xtr (ar_N ct) xlf xrt xlv → wpX_lower posu (nI st, nI nd, nI bu, xad, nI nx, xga, xto, ar_N kd, ar_N sb, ar_N tc, ar_N sg, ar_N wd, ar_N fa, ar_N ww, gs, ar_O so, xcd, xws, ar_N rg, ar_N ce, ar_O nm, xon, xgu, ar_N xdn, ar_N xsn, ar_N xpr, ar_N xcl, xtr, ar_N ct, xlf, xrt, xlv) (nI n) := by
    intro posu hp
    unfold wpX_lower
    dsimp only
    refine ⟨bn, ?_⟩
    rw [nI_clamp (by omega), ar_Nap, ar_Nap, ar_Nap]
    refine br_t (nI_le (a := 3) (by omega) (by omega)) ⟨bn, ba, bn, bb, ?_⟩
    rw [nI_clamp (by omega), nI_clamp (by omega), ar_Nap, ar_Nap]
    refine xq_greater (by omega) (by omega) ?_
    rw [hW] at hp
    exact hp
  have hY : ∀ pos2 : Int32 → SY → Prop, wY_lower_69 pos2 (nI n) (nI (kd n)) (nI (fa n)) (nI (sb n)) 0 (nI W) (nI st) (nI nd) (nI bu) yad (nI wk) (nI nx) (nI kc1) (nI kc0) (nI kc2) (nI kc3) (nI kc4) (nI kc5) (nI kc6) (nI kc7) yts (nI gi) (nI 0) (ar_N ww) (ar_N rg) (ar_N ce) gs (ar_N kd) (ar_N fa) ybs ycs (ar_N sg) ywd (ar_O so) ycd yws (ar_N nb) (ar_N sy) (ar_N vl) (ar_N pv) (ar_N pc) ygu (ar_N gv) (ar_N dn) (ar_N wo) (ar_N pp) (ar_N yo) (ar_N wh) (ar_N wt) (ar_N wi) (ar_N tr) (ar_N tg) yone ytwo ylv → wpY_lower pos2 (nI st, nI nd, nI bu, yad, nI wk, nI nx, nI kc1, nI kc0, nI kc2, nI kc3, nI kc4, nI kc5, nI kc6, nI kc7, yts, nI gi, yga, ar_N ww, ar_N rg, ar_N ce, gs, ar_N kd, ar_N fa, ybs, ycs, ar_N sg, ywd, ar_O so, ycd, yws, ar_N nb, ar_N sy, ar_N vl, ar_N pv, ar_N pc, ygu, ar_N gv, ar_N dn, ar_N wo, ar_N pp, ar_N yo, ar_N wh, ar_N wt, ar_N wi, ar_N tr, ar_N tg, yone, ytwo, ylv) (nI n) := by
    intro pos2 hp
    unfold wpY_lower
    dsimp only
    refine ⟨bn, fun q eq => ⟨bn, fun y ey => ⟨bn, fun z ez => ?_⟩⟩⟩
    rw [nI_clamp (by omega), ar_Nap] at eq ey
    rw [nI_clamp (by omega), e5] at ez
    rw [eq, ey, ez]
    refine br_t (nI_le (a := 3) (by omega) (by omega)) ⟨ba, bb, ?_⟩
    rw [nI_clamp (by omega), nI_clamp (by omega), hwd _ (show fa n < nd by omega), hwd _ (show sb n < nd by omega)]
    rw [hW] at hp
    unfold ga_m at hp
    refine pk_le (wd (fa n)) (wd (sb n)) (fun q => ⟨bb, ?_⟩) (fun q => ⟨ba, ?_⟩)
    · rw [if_pos q] at hp; exact hp
    · rw [if_neg (by omega)] at hp; exact hp
  -- the component's switch
  have sX : ∀ posu : SX → Prop, (kd n = 9 → wpX_pick (fun u => match u with | (f_stages, f_nodes, f_built, f_address, f_next, f_gates, f_top, a_kind, a_second, a_third, a_stageOf, a_wide, a_first, a_width, a_guess, a_source, a_condition, a_writeStage, a_registers, a_cells, a_number, a_on, a_guessed, a_done, a_seen, a_prepared, a_cell, a_traced, a_counts, a_left, a_right, a_level) => (posu (f_stages, f_nodes, f_built, f_address, f_next, f_gates, f_top, a_kind, a_second, a_third, a_stageOf, a_wide, a_first, a_width, a_guess, a_source, a_condition, a_writeStage, a_registers, a_cells, a_number, a_on, a_guessed, a_done, a_seen, a_prepared, a_cell, a_traced, a_counts, a_left, a_right, a_level))) (nI st, nI nd, nI bu, xad, nI nx, nI 0, nI 0, ar_N kd, ar_N sb, ar_N tc, ar_N sg, ar_N wd, ar_N fa, ar_N ww, gs, ar_O so, xcd, xws, ar_N rg, ar_N ce, ar_O nm, xon, xgu, ar_N xdn, ar_N xsn, ar_N xpr, ar_N xcl, xtr, ar_N ct, xlf, xrt, xlv) (nI n)) → (kd n = 8 → wpX_same (fun u => match u with | (f_stages, f_nodes, f_built, f_address, f_next, f_gates, f_top, a_kind, a_second, a_third, a_stageOf, a_wide, a_first, a_width, a_guess, a_source, a_condition, a_writeStage, a_registers, a_cells, a_number, a_on, a_guessed, a_done, a_seen, a_prepared, a_cell, a_traced, a_counts, a_left, a_right, a_level) => (posu (f_stages, f_nodes, f_built, f_address, f_next, f_gates, f_top, a_kind, a_second, a_third, a_stageOf, a_wide, a_first, a_width, a_guess, a_source, a_condition, a_writeStage, a_registers, a_cells, a_number, a_on, a_guessed, a_done, a_seen, a_prepared, a_cell, a_traced, a_counts, a_left, a_right, a_level))) (nI st, nI nd, nI bu, xad, nI nx, nI 0, nI 0, ar_N kd, ar_N sb, ar_N tc, ar_N sg, ar_N wd, ar_N fa, ar_N ww, gs, ar_O so, xcd, xws, ar_N rg, ar_N ce, ar_O nm, xon, xgu, ar_N xdn, ar_N xsn, ar_N xpr, ar_N xcl, xtr, ar_N ct, xlf, xrt, xlv) (nI n) (nI W)) → (kd n = 5 ∨ kd n = 6 → ∃ f, wX_lower_177 posu (nI n) f 0 (nI st) (nI nd) (nI bu) xad (nI nx) (nI 0) (nI 0) (ar_N kd) (ar_N sb) (ar_N tc) (ar_N sg) (ar_N wd) (ar_N fa) (ar_N ww) gs (ar_O so) xcd xws (ar_N rg) (ar_N ce) (ar_O nm) xon xgu (ar_N xdn) (ar_N xsn) (ar_N xpr) (ar_N xcl) xtr (ar_N ct) xlf xrt xlv) → (kd n = 3 ∨ kd n = 4 ∨ kd n = 7 → wpX_chain (fun u => match u with | (f_stages, f_nodes, f_built, f_address, f_next, f_gates, f_top, a_kind, a_second, a_third, a_stageOf, a_wide, a_first, a_width, a_guess, a_source, a_condition, a_writeStage, a_registers, a_cells, a_number, a_on, a_guessed, a_done, a_seen, a_prepared, a_cell, a_traced, a_counts, a_left, a_right, a_level) => (posu (f_stages, f_nodes, f_built, f_address, f_next, f_gates, f_top, a_kind, a_second, a_third, a_stageOf, a_wide, a_first, a_width, a_guess, a_source, a_condition, a_writeStage, a_registers, a_cells, a_number, a_on, a_guessed, a_done, a_seen, a_prepared, a_cell, a_traced, a_counts, a_left, a_right, a_level))) (nI st, nI nd, nI bu, xad, nI nx, nI 0, nI 0, ar_N kd, ar_N sb, ar_N tc, ar_N sg, ar_N wd, ar_N fa, ar_N ww, gs, ar_O so, xcd, xws, ar_N rg, ar_N ce, ar_O nm, xon, xgu, ar_N xdn, ar_N xsn, ar_N xpr, ar_N xcl, xtr, ar_N ct, xlf, xrt, xlv) (nI n) (nI W) (nI (ga_op (kd n))) (nI (ga_le (kd n)))) → wX_lower_49 posu (nI n) (nI W) (nI st) (nI nd) (nI bu) xad (nI nx) (nI 0) (nI 0) (ar_N kd) (ar_N sb) (ar_N tc) (ar_N sg) (ar_N wd) (ar_N fa) (ar_N ww) gs (ar_O so) xcd xws (ar_N rg) (ar_N ce) (ar_O nm) xon xgu (ar_N xdn) (ar_N xsn) (ar_N xpr) (ar_N xcl) xtr (ar_N ct) xlf xrt xlv := by
    intro posu h9 h8 h56 h347
    have chain : kd n = 3 ∨ kd n = 4 ∨ kd n = 7 → wX_lower_115 posu (nI n) (nI W) (nI st) (nI nd) (nI bu) xad (nI nx) (nI 0) (nI 0) (ar_N kd) (ar_N sb) (ar_N tc) (ar_N sg) (ar_N wd) (ar_N fa) (ar_N ww) gs (ar_O so) xcd xws (ar_N rg) (ar_N ce) (ar_O nm) xon xgu (ar_N xdn) (ar_N xsn) (ar_N xpr) (ar_N xcl) xtr (ar_N ct) xlf xrt xlv := by
      intro h
      have hc := h347 h
      have fin : wX_lower_130 posu (nI n) (nI W) (nI (ga_op (kd n))) (nI st) (nI nd) (nI bu) xad (nI nx) (nI 0) (nI 0) (ar_N kd) (ar_N sb) (ar_N tc) (ar_N sg) (ar_N wd) (ar_N fa) (ar_N ww) gs (ar_O so) xcd xws (ar_N rg) (ar_N ce) (ar_O nm) xon xgu (ar_N xdn) (ar_N xsn) (ar_N xpr) (ar_N xcl) xtr (ar_N ct) xlf xrt xlv := by
        unfold wX_lower_130
        refine ⟨bn, ?_⟩
        rw [nI_clamp (by omega), ar_Nap]
        refine pk_eq (kd n) 7 (fun q => ?_) (fun q => ?_)
        · unfold wX_lower_151
          rw [show ga_le (kd n) = 1 from if_pos q] at hc
          exact hc
        · unfold wX_lower_151
          rw [show ga_le (kd n) = 0 from if_neg q] at hc
          exact hc
      unfold wX_lower_115
      refine ⟨bn, ?_⟩
      rw [nI_clamp (by omega), ar_Nap]
      refine pk_eq (kd n) 3 (fun q => ?_) (fun q => ?_)
      · rw [show ga_op (kd n) = 0 from if_pos q] at fin; exact fin
      · rw [show ga_op (kd n) = 1 from if_neg q] at fin; exact fin
    unfold wX_lower_49
    refine ⟨bn, fun q eq => ?_⟩
    rw [nI_clamp (by omega), ar_Nap] at eq
    rw [eq]
    refine br_f (nI_pos (by omega)) (br_f (nI_nlt (a := 9) (by omega) (by omega)) (br_f (nk (q := 0) (by omega) (by omega)) (br_f (nk (q := 1) (by omega) (by omega)) (br_f (nk (q := 2) (by omega) (by omega)) ?_))))
    refine pk_eq (kd n) 3 (fun k3 => chain (Or.inl k3)) (fun k3 => ?_)
    refine pk_eq (kd n) 4 (fun k4 => chain (Or.inr (Or.inl k4))) (fun k4 => ?_)
    refine pk_eq (kd n) 5 (fun k5 => h56 (Or.inl k5)) (fun k5 => ?_)
    refine pk_eq (kd n) 6 (fun k6 => h56 (Or.inr k6)) (fun k6 => ?_)
    refine pk_eq (kd n) 7 (fun k7 => chain (Or.inr (Or.inr k7))) (fun k7 => ?_)
    refine pk_eq (kd n) 8 (fun k8 => h8 k8) (fun k8 => ?_)
    have k9 : kd n = 9 := by omega
    exact br_t (ek (q := 9) k9) (h9 k9)
  -- the reference's start
  have sY : ∀ (pos2 : Int32 → SY → Prop) (s : Nat), (s = if kd n = 4 ∨ kd n = 7 ∨ kd n = 8 then 1 else 0) → wY_lower_93 pos2 (nI n) (nI (kd n)) (nI (fa n)) (nI (sb n)) 0 (nI W) (nI s) (nI st) (nI nd) (nI bu) yad (nI wk) (nI nx) (nI kc1) (nI kc0) (nI kc2) (nI kc3) (nI kc4) (nI kc5) (nI kc6) (nI kc7) yts (nI gi) (nI 0) (ar_N ww) (ar_N rg) (ar_N ce) gs (ar_N kd) (ar_N fa) ybs ycs (ar_N sg) ywd (ar_O so) ycd yws (ar_N nb) (ar_N sy) (ar_N vl) (ar_N pv) (ar_N pc) ygu (ar_N gv) (ar_N dn) (ar_N wo) (ar_N pp) (ar_N yo) (ar_N wh) (ar_N wt) (ar_N wi) (ar_N tr) (ar_N tg) yone ytwo ylv → wY_lower_69 pos2 (nI n) (nI (kd n)) (nI (fa n)) (nI (sb n)) 0 (nI W) (nI st) (nI nd) (nI bu) yad (nI wk) (nI nx) (nI kc1) (nI kc0) (nI kc2) (nI kc3) (nI kc4) (nI kc5) (nI kc6) (nI kc7) yts (nI gi) (nI 0) (ar_N ww) (ar_N rg) (ar_N ce) gs (ar_N kd) (ar_N fa) ybs ycs (ar_N sg) ywd (ar_O so) ycd yws (ar_N nb) (ar_N sy) (ar_N vl) (ar_N pv) (ar_N pc) ygu (ar_N gv) (ar_N dn) (ar_N wo) (ar_N pp) (ar_N yo) (ar_N wh) (ar_N wt) (ar_N wi) (ar_N tr) (ar_N tg) yone ytwo ylv := by
    intro pos2 s hs hp
    unfold wY_lower_69
    have one : kd n = 4 ∨ kd n = 7 ∨ kd n = 8 → wY_lower_88 pos2 (nI n) (nI (kd n)) (nI (fa n)) (nI (sb n)) 0 (nI W) (nI st) (nI nd) (nI bu) yad (nI wk) (nI nx) (nI kc1) (nI kc0) (nI kc2) (nI kc3) (nI kc4) (nI kc5) (nI kc6) (nI kc7) yts (nI gi) (nI 0) (ar_N ww) (ar_N rg) (ar_N ce) gs (ar_N kd) (ar_N fa) ybs ycs (ar_N sg) ywd (ar_O so) ycd yws (ar_N nb) (ar_N sy) (ar_N vl) (ar_N pv) (ar_N pc) ygu (ar_N gv) (ar_N dn) (ar_N wo) (ar_N pp) (ar_N yo) (ar_N wh) (ar_N wt) (ar_N wi) (ar_N tr) (ar_N tg) yone ytwo ylv := by
      intro h
      rw [if_pos h] at hs
      rw [hs] at hp
      unfold wY_lower_88
      exact hp
    refine pk_eq (kd n) 4 (fun q => one (Or.inl q)) (fun q4 => pk_eq (kd n) 7 (fun q => one (Or.inr (Or.inl q))) (fun q7 => pk_eq (kd n) 8 (fun q => one (Or.inr (Or.inr q))) (fun q8 => ?_)))
    rw [if_neg (by omega)] at hs
    rw [hs] at hp
    exact hp
  by_cases k9 : kd n = 9
  · have vA := ga_bv (G := 0) (k := 0) (j := 0) hM hn (by rw [k9]; decide)
    obtain ⟨T', G', xlf', xrt', xlv', yone', ytwo', ylv', i1, i2, i3⟩ := pr_loD hM hwd hn k9 (wd (fa n) - 1) 1 (ga_b kd fa wd (fa n) 0) 0 (fun _ => 0) (fun _ => 0) (fun _ => 0) xlf xrt xlv yone ytwo ylv (by omega) (by omega) R0 vA.1 (by have := ga_b0 (fun _ => 0) vA.2; exact Nat.le_trans (Nat.le_of_eq this) (by omega)) (by omega)
    refine ⟨T', G', xlf', xrt', xlv', yone', ytwo', ylv', i1, fun posu hp => hX posu (sX posu (fun _ => ?_) (fun q => by omega) (fun q => by omega) (fun q => by omega)), fun pos2 hp => hY pos2 (sY pos2 0 (by rw [if_neg (by omega)]) ?_)⟩
    · unfold wpX_pick
      dsimp only
      refine xq_bit (j := 0) (k := 0) hM hn (by rw [k9]; decide) (by omega) ?_
      exact ⟨_, i2 posu hp⟩
    · unfold wY_lower_93
      refine br_t (ek (q := 9) k9) ?_
      refine yq_bit (k := 0) hM hwd (by omega) (by omega) ?_
      exact ⟨_, i3 pos2 hp⟩
  have y93 : ∀ (pos2 : Int32 → SY → Prop) (s : Nat), wY_lower_156 pos2 (nI n) (nI (kd n)) (nI (fa n)) (nI (sb n)) 0 (nI W) (nI s) (nI st) (nI nd) (nI bu) yad (nI wk) (nI nx) (nI kc1) (nI kc0) (nI kc2) (nI kc3) (nI kc4) (nI kc5) (nI kc6) (nI kc7) yts (nI gi) (nI 0) (ar_N ww) (ar_N rg) (ar_N ce) gs (ar_N kd) (ar_N fa) ybs ycs (ar_N sg) ywd (ar_O so) ycd yws (ar_N nb) (ar_N sy) (ar_N vl) (ar_N pv) (ar_N pc) ygu (ar_N gv) (ar_N dn) (ar_N wo) (ar_N pp) (ar_N yo) (ar_N wh) (ar_N wt) (ar_N wi) (ar_N tr) (ar_N tg) yone ytwo ylv → wY_lower_93 pos2 (nI n) (nI (kd n)) (nI (fa n)) (nI (sb n)) 0 (nI W) (nI s) (nI st) (nI nd) (nI bu) yad (nI wk) (nI nx) (nI kc1) (nI kc0) (nI kc2) (nI kc3) (nI kc4) (nI kc5) (nI kc6) (nI kc7) yts (nI gi) (nI 0) (ar_N ww) (ar_N rg) (ar_N ce) gs (ar_N kd) (ar_N fa) ybs ycs (ar_N sg) ywd (ar_O so) ycd yws (ar_N nb) (ar_N sy) (ar_N vl) (ar_N pv) (ar_N pc) ygu (ar_N gv) (ar_N dn) (ar_N wo) (ar_N pp) (ar_N yo) (ar_N wh) (ar_N wt) (ar_N wi) (ar_N tr) (ar_N tg) yone ytwo ylv := by
    intro pos2 s hp
    unfold wY_lower_93
    exact br_f (nk (q := 9) (by omega) k9) hp
  by_cases k8 : kd n = 8
  · obtain ⟨T', G', xlf', xrt', xlv', yone', ytwo', ylv', i1, i2, i3⟩ := pr_loC (W := W) hM hwd hn k8 W16 W 0 1 0 (fun _ => 0) (fun _ => 0) (fun _ => 0) xlf xrt xlv yone ytwo ylv (by omega) R0 (Or.inl (by omega)) (by unfold ga_l; rw [if_pos (by omega)]; omega) (by omega)
    refine ⟨T', G', xlf', xrt', xlv', yone', ytwo', ylv', i1, fun posu hp => hX posu (sX posu (fun q => by omega) (fun _ => ⟨_, i2 posu hp⟩) (fun q => by omega) (fun q => by omega)), fun pos2 hp => hY pos2 (sY pos2 1 (by rw [if_pos (Or.inr (Or.inr k8))]) (y93 pos2 1 ?_))⟩
    unfold wY_lower_156
    exact br_f (nk (q := 5) (by omega) (by omega)) ⟨_, i3 pos2 hp⟩
  by_cases k56 : kd n = 5 ∨ kd n = 6
  · obtain ⟨T', G', xlf', xrt', xlv', yone', ytwo', ylv', i1, i2, i3⟩ := pr_loA hM hwd hn k56 (wd n) 0 0 0 (fun _ => 0) (fun _ => 0) (fun _ => 0) xlf xrt xlv yone ytwo ylv (by omega) R0 (by omega) (by omega)
    refine ⟨T', G', xlf', xrt', xlv', yone', ytwo', ylv', i1, fun posu hp => hX posu (sX posu (fun q => by omega) (fun q => by omega) (fun _ => ⟨_, i2 posu hp⟩) (fun q => by omega)), fun pos2 hp => hY pos2 (sY pos2 0 (by rw [if_neg (by omega)]) (y93 pos2 0 ?_))⟩
    unfold wY_lower_156
    refine pk_eq (kd n) 5 (fun q => ⟨bn, fun y ey => ?_⟩) (fun q => ?_)
    · rw [nI_clamp (by omega), hwd n hn] at ey
      rw [ey]
      exact ⟨_, i3 pos2 hp⟩
    · have k6 : kd n = 6 := by omega
      have e : W = wd n := by
        rw [b9]
        unfold re_w
        rw [if_neg (by omega), if_neg (by omega), if_neg (by omega), if_neg (by omega), if_neg (by omega), if_neg (by omega), hW]
        rfl
      rw [e]
      exact ⟨_, i3 pos2 hp⟩
  · have k347 : kd n = 3 ∨ kd n = 4 ∨ kd n = 7 := by omega
    have op2 : ga_op (kd n) < 2 := by unfold ga_op; split <;> omega
    obtain ⟨T', G', xlf', xrt', xlv', yone', ytwo', ylv', i1, i2, i3⟩ := pr_loB (W := W) hM hwd hn k347 W16 W 0 (ga_op (kd n)) 0 0 (fun _ => 0) (fun _ => 0) (fun _ => 0) xlf xrt xlv yone ytwo ylv (by omega) R0 (Or.inl op2) (by unfold ga_l; rw [if_pos (by omega)]; omega) (by omega) (by omega) (fun _ => rfl)
    rw [ga_t0 op2] at i2
    refine ⟨T', G', xlf', xrt', xlv', yone', ytwo', ylv', i1, fun posu hp => hX posu (sX posu (fun q => by omega) (fun q => by omega) (fun q => absurd q k56) (fun _ => ⟨_, i2 posu hp⟩)), fun pos2 hp => hY pos2 (sY pos2 (ga_op (kd n)) ?_ (y93 pos2 _ ?_))⟩
    · unfold ga_op
      by_cases k3 : kd n = 3
      · rw [if_pos k3, if_neg (by omega)]
      · rw [if_neg k3, if_pos (by omega)]
    · unfold wY_lower_156
      exact br_f (nk (q := 5) (by omega) (by omega)) ⟨_, i3 pos2 hp⟩
end
end
section
/-! derive; the start -/
theorem i_vc_derive {k : Nat} {u : SX} {v : SY} (I : i_Rel k u v) (hk : k + 6 ≤ 3072) (v1 : Int32) (v2 : Int32) : wpX_derive (fun r u' => wpY_derive (fun r' v' => r' = r ∧ i_Rel (k + 6) u' v') v v1 v2) u v1 v2 := by
  refine re_el (P := fun u v => wpX_derive (fun r u' => wpY_derive (fun r' v' => r' = r ∧ i_Rel (k + 6) u' v') v v1 v2) u v1 v2) ?_ I
  intro st nd bu nx wk gi ad xad xga xto yad yts yga kd sb tc sg wd fa ww so rg ce nm xdn xsn xpr xcl ct nb sy vl pv pc gv dn wo pp yo wh wt wi tr tg cd ws gs xcd xws xon xgu xlf xrt xlv ybs ycs ywd ycd yws ygu yone ytwo ylv xtr hR
  have J := re_in (re_up (show k ≤ k + 6 by omega) hR)
  obtain ⟨hM, hB, hO, hV, hQ, hP, hC, hL, hk20⟩ := hR
  have hst := hM.1
  obtain ⟨ywd', m1, m2⟩ := yq_measure (bu := bu) (wk := wk) (nx := nx) (kc0 := ct 0) (kc1 := ct 1) (kc2 := ct 2) (kc3 := ct 3) (kc4 := ct 4) (kc5 := ct 5) (kc6 := ct 6) (kc7 := ct 7) (yts := yts) (gi := gi) (yga := yga) (rg := rg) (ce := ce) (ywd := ywd) (nb := nb) (sy := sy) (vl := vl) (pv := pv) (pc := pc) (ygu := ygu) (gv := gv) (dn := dn) (wo := wo) (pp := pp) (yo := yo) (wh := wh) (wt := wt) (wi := wi) (tr := tr) (tg := tg) (yone := yone) (ytwo := ytwo) (ylv := ylv) hM
  have hB' : (bu = 0 ∧ wk = 0) ∨ (bu = 1 ∧ re_F st nd kd fa sb tc sg wd ww so cd ws ad gs ∧ ∀ n, n < nd → ywd' n = nI (wd n)) := by
    rcases hB with h | ⟨h1, h2, h3⟩
    · exact Or.inl h
    · exact Or.inr ⟨h1, h2, m1⟩
  have J' : i_Rel (k + 6) (nI st, nI nd, nI bu, xad, nI nx, xga, xto, ar_N kd, ar_N sb, ar_N tc, ar_N sg, ar_N wd, ar_N fa, ar_N ww, gs, ar_O so, xcd, xws, ar_N rg, ar_N ce, ar_O nm, xon, xgu, ar_N xdn, ar_N xsn, ar_N xpr, ar_N xcl, xtr, ar_N ct, xlf, xrt, xlv) (nI st, nI nd, nI bu, yad, nI wk, nI nx, nI (ct 1), nI (ct 0), nI (ct 2), nI (ct 3), nI (ct 4), nI (ct 5), nI (ct 6), nI (ct 7), yts, nI gi, yga, ar_N ww, ar_N rg, ar_N ce, gs, ar_N kd, ar_N fa, ybs, ycs, ar_N sg, ywd', ar_O so, ycd, yws, ar_N nb, ar_N sy, ar_N vl, ar_N pv, ar_N pc, ygu, ar_N gv, ar_N dn, ar_N wo, ar_N pp, ar_N yo, ar_N wh, ar_N wt, ar_N wi, ar_N tr, ar_N tg, yone, ytwo, ylv) := re_in ⟨hM, hB', hO, hV, hQ, hP, hC, hL, by omega⟩
  have bad1 : (v1 < 0 ∨ nI 6 ≤ v1) → ∀ pos2 : Int32 → SY → Prop, pos2 (-1) (nI st, nI nd, nI bu, yad, nI wk, nI nx, nI (ct 1), nI (ct 0), nI (ct 2), nI (ct 3), nI (ct 4), nI (ct 5), nI (ct 6), nI (ct 7), yts, nI gi, yga, ar_N ww, ar_N rg, ar_N ce, gs, ar_N kd, ar_N fa, ybs, ycs, ar_N sg, ywd, ar_O so, ycd, yws, ar_N nb, ar_N sy, ar_N vl, ar_N pv, ar_N pc, ygu, ar_N gv, ar_N dn, ar_N wo, ar_N pp, ar_N yo, ar_N wh, ar_N wt, ar_N wi, ar_N tr, ar_N tg, yone, ytwo, ylv) → wpY_derive pos2 (nI st, nI nd, nI bu, yad, nI wk, nI nx, nI (ct 1), nI (ct 0), nI (ct 2), nI (ct 3), nI (ct 4), nI (ct 5), nI (ct 6), nI (ct 7), yts, nI gi, yga, ar_N ww, ar_N rg, ar_N ce, gs, ar_N kd, ar_N fa, ybs, ycs, ar_N sg, ywd, ar_O so, ycd, yws, ar_N nb, ar_N sy, ar_N vl, ar_N pv, ar_N pc, ygu, ar_N gv, ar_N dn, ar_N wo, ar_N pp, ar_N yo, ar_N wh, ar_N wt, ar_N wi, ar_N tr, ar_N tg, yone, ytwo, ylv) v1 v2 := by
    intro h pos2 hp
    have n1 : ¬ v1 = 1 := by
      rintro rfl
      rcases h with h | h
      · exact absurd h (by decide)
      · exact absurd h (by decide)
    unfold wpY_derive; dsimp only
    refine br_f n1 ?_
    unfold wY_derive_9
    exact br_f n1 (yq_inF h (br_t rfl hp))
  rcases pk_ix v1 (n := 6) (by omega) with h | h | ⟨w, hw, rfl⟩
  · have := bad1 (Or.inl h) (fun r' v' => r' = -1 ∧ i_Rel (k + 6) (nI st, nI nd, nI bu, xad, nI nx, xga, xto, ar_N kd, ar_N sb, ar_N tc, ar_N sg, ar_N wd, ar_N fa, ar_N ww, gs, ar_O so, xcd, xws, ar_N rg, ar_N ce, ar_O nm, xon, xgu, ar_N xdn, ar_N xsn, ar_N xpr, ar_N xcl, xtr, ar_N ct, xlf, xrt, xlv) v') ⟨rfl, J⟩
    unfold wpX_derive; dsimp only
    exact xq_in1F (n := 6) (by omega) (Or.inl h) (br_t rfl this)
  · have := bad1 (Or.inr h) (fun r' v' => r' = -1 ∧ i_Rel (k + 6) (nI st, nI nd, nI bu, xad, nI nx, xga, xto, ar_N kd, ar_N sb, ar_N tc, ar_N sg, ar_N wd, ar_N fa, ar_N ww, gs, ar_O so, xcd, xws, ar_N rg, ar_N ce, ar_O nm, xon, xgu, ar_N xdn, ar_N xsn, ar_N xpr, ar_N xcl, xtr, ar_N ct, xlf, xrt, xlv) v') ⟨rfl, J⟩
    unfold wpX_derive; dsimp only
    exact xq_in1F (n := 6) (by omega) (Or.inr h) (br_t rfl this)
  by_cases w1 : w = 1
  · -- what is carried
    subst w1
    have Y : ∀ pos2 : Int32 → SY → Prop, wpY_in (fun r_218 => (((r_218 = 0 → (pos2 (-1) (nI st, nI nd, nI bu, yad, nI wk, nI nx, nI (ct 1), nI (ct 0), nI (ct 2), nI (ct 3), nI (ct 4), nI (ct 5), nI (ct 6), nI (ct 7), yts, nI gi, yga, ar_N ww, ar_N rg, ar_N ce, gs, ar_N kd, ar_N fa, ybs, ycs, ar_N sg, ywd', ar_O so, ycd, yws, ar_N nb, ar_N sy, ar_N vl, ar_N pv, ar_N pc, ygu, ar_N gv, ar_N dn, ar_N wo, ar_N pp, ar_N yo, ar_N wh, ar_N wt, ar_N wi, ar_N tr, ar_N tg, yone, ytwo, ylv))) ∧ (¬ r_218 = 0 → (wpY_carried (fun r_220 => (pos2 r_220 (nI st, nI nd, nI bu, yad, nI wk, nI nx, nI (ct 1), nI (ct 0), nI (ct 2), nI (ct 3), nI (ct 4), nI (ct 5), nI (ct 6), nI (ct 7), yts, nI gi, yga, ar_N ww, ar_N rg, ar_N ce, gs, ar_N kd, ar_N fa, ybs, ycs, ar_N sg, ywd', ar_O so, ycd, yws, ar_N nb, ar_N sy, ar_N vl, ar_N pv, ar_N pc, ygu, ar_N gv, ar_N dn, ar_N wo, ar_N pp, ar_N yo, ar_N wh, ar_N wt, ar_N wi, ar_N tr, ar_N tg, yone, ytwo, ylv))) (nI st, nI nd, nI bu, yad, nI wk, nI nx, nI (ct 1), nI (ct 0), nI (ct 2), nI (ct 3), nI (ct 4), nI (ct 5), nI (ct 6), nI (ct 7), yts, nI gi, yga, ar_N ww, ar_N rg, ar_N ce, gs, ar_N kd, ar_N fa, ybs, ycs, ar_N sg, ywd', ar_O so, ycd, yws, ar_N nb, ar_N sy, ar_N vl, ar_N pv, ar_N pc, ygu, ar_N gv, ar_N dn, ar_N wo, ar_N pp, ar_N yo, ar_N wh, ar_N wt, ar_N wi, ar_N tr, ar_N tg, yone, ytwo, ylv) v2))))) v2 (nI (st - 1)) → wpY_derive pos2 (nI st, nI nd, nI bu, yad, nI wk, nI nx, nI (ct 1), nI (ct 0), nI (ct 2), nI (ct 3), nI (ct 4), nI (ct 5), nI (ct 6), nI (ct 7), yts, nI gi, yga, ar_N ww, ar_N rg, ar_N ce, gs, ar_N kd, ar_N fa, ybs, ycs, ar_N sg, ywd, ar_O so, ycd, yws, ar_N nb, ar_N sy, ar_N vl, ar_N pv, ar_N pc, ygu, ar_N gv, ar_N dn, ar_N wo, ar_N pp, ar_N yo, ar_N wh, ar_N wt, ar_N wi, ar_N tr, ar_N tg, yone, ytwo, ylv) (nI 1) v2 := by
      intro pos2 hp
      unfold wpY_derive; dsimp only
      refine br_t rfl (m2 _ ?_)
      dsimp only
      unfold wY_derive_9
      refine br_t rfl ?_
      rw [show (1 : Int32) = nI 1 from rfl, pk_sub (by omega)]
      exact hp
    have hh : nI st - 2 = nI (st - 1) - 1 := by
      have : st = 1 ∨ st = 2 ∨ st = 3 ∨ st = 4 ∨ st = 5 := by omega
      rcases this with e | e | e | e | e <;> rw [e] <;> rfl
    unfold wpX_derive; dsimp only
    refine xq_in1T (n := 6) (by omega) hw (br_f (by decide) (br_t rfl ?_))
    rcases pk_ix v2 (n := st - 1) (by omega) with h | h | ⟨s, hs, rfl⟩
    · exact xq_in1F (n := st - 1) (by omega) (Or.inl h) (br_t rfl (Y _ (yq_inF (Or.inl h) (br_t rfl ⟨rfl, J'⟩)))) hh
    · exact xq_in1F (n := st - 1) (by omega) (Or.inr h) (br_t rfl (Y _ (yq_inF (Or.inr h) (br_t rfl ⟨rfl, J'⟩)))) hh
    · obtain ⟨B, i1, i2⟩ := pr_carried (s := s) (ywd := ywd') hM m1 (by omega)
      refine xq_in1T (n := st - 1) (by omega) hs (br_f (by decide) (i1 _ ?_)) hh
      exact Y _ (yq_in (by omega) hs (br_f (by decide) (i2 _ ⟨rfl, J'⟩)))
  have nw1 : ¬ nI w = 1 := by rw [show (1 : Int32) = nI 1 from rfl, nI_eq (by omega) (by omega)]; exact w1
  have nw : ∀ {q : Nat}, q < 10 → ¬ w = q → ¬ nI w = nI q := fun h1 h2 => by rw [nI_eq (by omega) (by omega)]; exact h2
  -- the reference's head
  have Y0 : ∀ pos2 : Int32 → SY → Prop, wpY_in (fun r_5 => (r_5 = 0 → pos2 (-1) (nI st, nI nd, nI bu, yad, nI wk, nI nx, nI (ct 1), nI (ct 0), nI (ct 2), nI (ct 3), nI (ct 4), nI (ct 5), nI (ct 6), nI (ct 7), yts, nI gi, yga, ar_N ww, ar_N rg, ar_N ce, gs, ar_N kd, ar_N fa, ybs, ycs, ar_N sg, ywd, ar_O so, ycd, yws, ar_N nb, ar_N sy, ar_N vl, ar_N pv, ar_N pc, ygu, ar_N gv, ar_N dn, ar_N wo, ar_N pp, ar_N yo, ar_N wh, ar_N wt, ar_N wi, ar_N tr, ar_N tg, yone, ytwo, ylv)) ∧ (¬ r_5 = 0 → (nI w = 2 → wY_derive_67 pos2 (nI w) v2 (nI st) (nI nd) (nI bu) yad (nI wk) (nI nx) (nI (ct 1)) (nI (ct 0)) (nI (ct 2)) (nI (ct 3)) (nI (ct 4)) (nI (ct 5)) (nI (ct 6)) (nI (ct 7)) yts (nI gi) yga (ar_N ww) (ar_N rg) (ar_N ce) gs (ar_N kd) (ar_N fa) ybs ycs (ar_N sg) ywd (ar_O so) ycd yws (ar_N nb) (ar_N sy) (ar_N vl) (ar_N pv) (ar_N pc) ygu (ar_N gv) (ar_N dn) (ar_N wo) (ar_N pp) (ar_N yo) (ar_N wh) (ar_N wt) (ar_N wi) (ar_N tr) (ar_N tg) yone ytwo ylv) ∧ (¬ nI w = 2 → (nI w = 3 → wY_derive_67 pos2 (nI w) v2 (nI st) (nI nd) (nI bu) yad (nI wk) (nI nx) (nI (ct 1)) (nI (ct 0)) (nI (ct 2)) (nI (ct 3)) (nI (ct 4)) (nI (ct 5)) (nI (ct 6)) (nI (ct 7)) yts (nI gi) yga (ar_N ww) (ar_N rg) (ar_N ce) gs (ar_N kd) (ar_N fa) ybs ycs (ar_N sg) ywd (ar_O so) ycd yws (ar_N nb) (ar_N sy) (ar_N vl) (ar_N pv) (ar_N pc) ygu (ar_N gv) (ar_N dn) (ar_N wo) (ar_N pp) (ar_N yo) (ar_N wh) (ar_N wt) (ar_N wi) (ar_N tr) (ar_N tg) yone ytwo ylv) ∧ (¬ nI w = 3 → wY_derive_89 pos2 (nI w) v2 (nI st) (nI nd) (nI bu) yad (nI wk) (nI nx) (nI (ct 1)) (nI (ct 0)) (nI (ct 2)) (nI (ct 3)) (nI (ct 4)) (nI (ct 5)) (nI (ct 6)) (nI (ct 7)) yts (nI gi) yga (ar_N ww) (ar_N rg) (ar_N ce) gs (ar_N kd) (ar_N fa) ybs ycs (ar_N sg) ywd (ar_O so) ycd yws (ar_N nb) (ar_N sy) (ar_N vl) (ar_N pv) (ar_N pc) ygu (ar_N gv) (ar_N dn) (ar_N wo) (ar_N pp) (ar_N yo) (ar_N wh) (ar_N wt) (ar_N wi) (ar_N tr) (ar_N tg) yone ytwo ylv)))) v2 (nI nd) → wpY_derive pos2 (nI st, nI nd, nI bu, yad, nI wk, nI nx, nI (ct 1), nI (ct 0), nI (ct 2), nI (ct 3), nI (ct 4), nI (ct 5), nI (ct 6), nI (ct 7), yts, nI gi, yga, ar_N ww, ar_N rg, ar_N ce, gs, ar_N kd, ar_N fa, ybs, ycs, ar_N sg, ywd, ar_O so, ycd, yws, ar_N nb, ar_N sy, ar_N vl, ar_N pv, ar_N pc, ygu, ar_N gv, ar_N dn, ar_N wo, ar_N pp, ar_N yo, ar_N wh, ar_N wt, ar_N wi, ar_N tr, ar_N tg, yone, ytwo, ylv) (nI w) v2 := by
    intro pos2 hp
    unfold wpY_derive; dsimp only
    refine br_f nw1 ?_
    unfold wY_derive_9
    exact br_f nw1 (yq_in (b := 6) (by omega) hw (br_f (by decide) hp))
  rcases pk_ix v2 (n := nd) (by omega) with h | h | ⟨n, hn, rfl⟩
  · unfold wpX_derive; dsimp only
    exact xq_in1T (n := 6) (by omega) hw (br_f (by decide) (br_f nw1 (xq_isNodeF hst.2.2 (Or.inl h) (br_t rfl (Y0 _ (yq_inF (Or.inl h) (br_t rfl ⟨rfl, J⟩)))))))
  · unfold wpX_derive; dsimp only
    exact xq_in1T (n := 6) (by omega) hw (br_f (by decide) (br_f nw1 (xq_isNodeF hst.2.2 (Or.inr h) (br_t rfl (Y0 _ (yq_inF (Or.inr h) (br_t rfl ⟨rfl, J⟩)))))))
  have bn := vp_in_nI (show n < 24 by omega) (show 24 < 2 ^ 31 by omega)
  have b1 := (hM.2.1 n hn).1
  have Y1 : ¬ (w = 2 ∨ w = 3) → ∀ pos2 : Int32 → SY → Prop, wY_derive_89 pos2 (nI w) (nI n) (nI st) (nI nd) (nI bu) yad (nI wk) (nI nx) (nI (ct 1)) (nI (ct 0)) (nI (ct 2)) (nI (ct 3)) (nI (ct 4)) (nI (ct 5)) (nI (ct 6)) (nI (ct 7)) yts (nI gi) yga (ar_N ww) (ar_N rg) (ar_N ce) gs (ar_N kd) (ar_N fa) ybs ycs (ar_N sg) ywd (ar_O so) ycd yws (ar_N nb) (ar_N sy) (ar_N vl) (ar_N pv) (ar_N pc) ygu (ar_N gv) (ar_N dn) (ar_N wo) (ar_N pp) (ar_N yo) (ar_N wh) (ar_N wt) (ar_N wi) (ar_N tr) (ar_N tg) yone ytwo ylv → wpY_derive pos2 (nI st, nI nd, nI bu, yad, nI wk, nI nx, nI (ct 1), nI (ct 0), nI (ct 2), nI (ct 3), nI (ct 4), nI (ct 5), nI (ct 6), nI (ct 7), yts, nI gi, yga, ar_N ww, ar_N rg, ar_N ce, gs, ar_N kd, ar_N fa, ybs, ycs, ar_N sg, ywd, ar_O so, ycd, yws, ar_N nb, ar_N sy, ar_N vl, ar_N pv, ar_N pc, ygu, ar_N gv, ar_N dn, ar_N wo, ar_N pp, ar_N yo, ar_N wh, ar_N wt, ar_N wi, ar_N tr, ar_N tg, yone, ytwo, ylv) (nI w) (nI n) := by
    intro h23 pos2 hp
    exact Y0 _ (yq_in (by omega) hn (br_f (by decide) (br_f (nw (q := 2) (by omega) (by omega)) (br_f (nw (q := 3) (by omega) (by omega)) hp))))
  unfold wpX_derive; dsimp only
  refine xq_in1T (n := 6) (by omega) hw (br_f (by decide) (br_f nw1 (xq_isNodeT hst.2.2 hn (br_f (by decide) ?_))))
  rw [nI_clamp (by omega), ar_Nap, ar_Nap]
  by_cases w0 : w = 0
  · refine br_t (by rw [w0]; rfl) ⟨bn, Y1 (by omega) _ ?_⟩
    unfold wY_derive_89
    refine m2 _ (br_t (by rw [w0]; rfl) ⟨bn, ?_⟩)
    rw [nI_clamp (by omega), m1 n hn]
    exact ⟨rfl, J'⟩
  refine br_f (nw (q := 0) (by omega) w0) ?_
  by_cases w3 : w ≤ 3
  · have w23 : w = 2 ∨ w = 3 := by omega
    refine br_t (nI_le (b := 3) w3 (by omega)) ⟨bn, ?_⟩
    have Y2 : ∀ pos2 : Int32 → SY → Prop, wY_derive_67 pos2 (nI w) (nI n) (nI st) (nI nd) (nI bu) yad (nI wk) (nI nx) (nI (ct 1)) (nI (ct 0)) (nI (ct 2)) (nI (ct 3)) (nI (ct 4)) (nI (ct 5)) (nI (ct 6)) (nI (ct 7)) yts (nI gi) yga (ar_N ww) (ar_N rg) (ar_N ce) gs (ar_N kd) (ar_N fa) ybs ycs (ar_N sg) ywd (ar_O so) ycd yws (ar_N nb) (ar_N sy) (ar_N vl) (ar_N pv) (ar_N pc) ygu (ar_N gv) (ar_N dn) (ar_N wo) (ar_N pp) (ar_N yo) (ar_N wh) (ar_N wt) (ar_N wi) (ar_N tr) (ar_N tg) yone ytwo ylv → wpY_derive pos2 (nI st, nI nd, nI bu, yad, nI wk, nI nx, nI (ct 1), nI (ct 0), nI (ct 2), nI (ct 3), nI (ct 4), nI (ct 5), nI (ct 6), nI (ct 7), yts, nI gi, yga, ar_N ww, ar_N rg, ar_N ce, gs, ar_N kd, ar_N fa, ybs, ycs, ar_N sg, ywd, ar_O so, ycd, yws, ar_N nb, ar_N sy, ar_N vl, ar_N pv, ar_N pc, ygu, ar_N gv, ar_N dn, ar_N wo, ar_N pp, ar_N yo, ar_N wh, ar_N wt, ar_N wi, ar_N tr, ar_N tg, yone, ytwo, ylv) (nI w) (nI n) := by
      intro pos2 hp
      refine Y0 _ (yq_in (by omega) hn (br_f (by decide) ?_))
      exact br_c (fun _ => hp) (fun c => br_t (by rw [show w = 3 by rcases w23 with q | q; exact absurd (by rw [q]; rfl) c; exact q]; rfl) hp)
    have fin : kd n = 1 ∨ kd n = 2 → wX_derive_110 (fun r u' => wpY_derive (fun r' v' => r' = r ∧ i_Rel (k + 6) u' v') (nI st, nI nd, nI bu, yad, nI wk, nI nx, nI (ct 1), nI (ct 0), nI (ct 2), nI (ct 3), nI (ct 4), nI (ct 5), nI (ct 6), nI (ct 7), yts, nI gi, yga, ar_N ww, ar_N rg, ar_N ce, gs, ar_N kd, ar_N fa, ybs, ycs, ar_N sg, ywd, ar_O so, ycd, yws, ar_N nb, ar_N sy, ar_N vl, ar_N pv, ar_N pc, ygu, ar_N gv, ar_N dn, ar_N wo, ar_N pp, ar_N yo, ar_N wh, ar_N wt, ar_N wi, ar_N tr, ar_N tg, yone, ytwo, ylv) (nI w) (nI n)) (nI w) (nI n) (nI st) (nI nd) (nI bu) xad (nI nx) xga xto (ar_N kd) (ar_N sb) (ar_N tc) (ar_N sg) (ar_N wd) (ar_N fa) (ar_N ww) gs (ar_O so) xcd xws (ar_N rg) (ar_N ce) (ar_O nm) xon xgu (ar_N xdn) (ar_N xsn) (ar_N xpr) (ar_N xcl) xtr (ar_N ct) xlf xrt xlv := by
      intro hkd
      obtain ⟨B, i1, i2, i3⟩ := pr_d23 (n := n) (ywd := ywd') (bu := bu) (wk := wk) (nx := nx) (kc0 := ct 0) (kc1 := ct 1) (kc2 := ct 2) (kc3 := ct 3) (kc4 := ct 4) (kc5 := ct 5) (kc6 := ct 6) (kc7 := ct 7) (yts := yts) (gi := gi) (yga := yga) (rg := rg) (ce := ce) (nb := nb) (sy := sy) (vl := vl) (pv := pv) (pc := pc) (ygu := ygu) (gv := gv) (dn := dn) (wo := wo) (pp := pp) (yo := yo) (wh := wh) (wt := wt) (wi := wi) (tr := tr) (tg := tg) (yone := yone) (ytwo := ytwo) (ylv := ylv) hM hn hkd w23
      refine i1 _ (Y2 _ ?_)
      have e89 : wY_derive_89 (fun r' v' => r' = nI B ∧ i_Rel (k + 6) (nI st, nI nd, nI bu, xad, nI nx, xga, xto, ar_N kd, ar_N sb, ar_N tc, ar_N sg, ar_N wd, ar_N fa, ar_N ww, gs, ar_O so, xcd, xws, ar_N rg, ar_N ce, ar_O nm, xon, xgu, ar_N xdn, ar_N xsn, ar_N xpr, ar_N xcl, xtr, ar_N ct, xlf, xrt, xlv) v') (nI w) (nI n) (nI st) (nI nd) (nI bu) yad (nI wk) (nI nx) (nI (ct 1)) (nI (ct 0)) (nI (ct 2)) (nI (ct 3)) (nI (ct 4)) (nI (ct 5)) (nI (ct 6)) (nI (ct 7)) yts (nI gi) yga (ar_N ww) (ar_N rg) (ar_N ce) gs (ar_N kd) (ar_N fa) ybs ycs (ar_N sg) ywd (ar_O so) ycd yws (ar_N nb) (ar_N sy) (ar_N vl) (ar_N pv) (ar_N pc) ygu (ar_N gv) (ar_N dn) (ar_N wo) (ar_N pp) (ar_N yo) (ar_N wh) (ar_N wt) (ar_N wi) (ar_N tr) (ar_N tg) yone ytwo ylv := by
        unfold wY_derive_89
        refine m2 _ (br_f (nw (q := 0) (by omega) w0) ?_)
        refine pk_eq w 2 (fun q => ?_) (fun q => ?_)
        · exact i2 q _ ⟨rfl, J'⟩
        · exact br_t (by rw [show w = 3 by omega]; rfl) (i3 (by omega) _ ⟨rfl, J'⟩)
      unfold wY_derive_67
      refine ⟨bn, ?_⟩
      rw [nI_clamp (by omega), ar_Nap]
      exact br_c (fun _ => e89) (fun c => ⟨bn, br_t (by rw [show kd n = 2 by rcases hkd with q | q; exact absurd (by rw [q]; rfl) c; exact q]; rfl) e89⟩)
    refine pk_eq (kd n) 1 (fun q => fin (Or.inl q)) (fun q1 => ⟨bn, ?_⟩)
    refine pk_eq (kd n) 2 (fun q => fin (Or.inr q)) (fun q2 => Y2 _ ?_)
    unfold wY_derive_67
    refine ⟨bn, ?_⟩
    rw [nI_clamp (by omega), ar_Nap]
    refine br_f (by rw [show (1 : Int32) = nI 1 from rfl, nI_eq (by omega) (by omega)]; exact q1) ⟨bn, br_f (by rw [show (2 : Int32) = nI 2 from rfl, nI_eq (by omega) (by omega)]; exact q2) ⟨rfl, J⟩⟩
  · refine br_f (nI_ge (a := 3) (by omega) (by omega)) ?_
    obtain ⟨T', G', xlf', xrt', xlv', yone', ytwo', ylv', i1, i2, i3⟩ := pr_lower (n := n) (ywd := ywd') (xlv := xlv) (bu := bu) (wk := wk) (nx := nx) (kc0 := ct 0) (kc1 := ct 1) (kc2 := ct 2) (kc3 := ct 3) (kc4 := ct 4) (kc5 := ct 5) (kc6 := ct 6) (kc7 := ct 7) (yts := yts) (gi := gi) (yga := yga) (rg := rg) (ce := ce) (nb := nb) (sy := sy) (vl := vl) (pv := pv) (pc := pc) (ygu := ygu) (gv := gv) (dn := dn) (wo := wo) (pp := pp) (yo := yo) (wh := wh) (wt := wt) (wi := wi) (tr := tr) (tg := tg) (yone := yone) (ytwo := ytwo) (ylv := ylv) hM m1 hn hL
    have JJ : i_Rel (k + 6) (nI st, nI nd, nI bu, xad, nI nx, nI G', nI T', ar_N kd, ar_N sb, ar_N tc, ar_N sg, ar_N wd, ar_N fa, ar_N ww, gs, ar_O so, xcd, xws, ar_N rg, ar_N ce, ar_O nm, xon, xgu, ar_N xdn, ar_N xsn, ar_N xpr, ar_N xcl, xtr, ar_N ct, xlf', xrt', xlv') (nI st, nI nd, nI bu, yad, nI wk, nI nx, nI (ct 1), nI (ct 0), nI (ct 2), nI (ct 3), nI (ct 4), nI (ct 5), nI (ct 6), nI (ct 7), yts, nI gi, nI G', ar_N ww, ar_N rg, ar_N ce, gs, ar_N kd, ar_N fa, ybs, ycs, ar_N sg, ywd', ar_O so, ycd, yws, ar_N nb, ar_N sy, ar_N vl, ar_N pv, ar_N pc, ygu, ar_N gv, ar_N dn, ar_N wo, ar_N pp, ar_N yo, ar_N wh, ar_N wt, ar_N wi, ar_N tr, ar_N tg, yone', ytwo', ylv') := re_in ⟨hM, hB', hO, hV, hQ, hP, hC, i1, by omega⟩
    refine i2 _ ?_
    have e89 : ∀ pos2 : Int32 → SY → Prop, ((nI w = 4 → pos2 (nI G') (nI st, nI nd, nI bu, yad, nI wk, nI nx, nI (ct 1), nI (ct 0), nI (ct 2), nI (ct 3), nI (ct 4), nI (ct 5), nI (ct 6), nI (ct 7), yts, nI gi, nI G', ar_N ww, ar_N rg, ar_N ce, gs, ar_N kd, ar_N fa, ybs, ycs, ar_N sg, ywd', ar_O so, ycd, yws, ar_N nb, ar_N sy, ar_N vl, ar_N pv, ar_N pc, ygu, ar_N gv, ar_N dn, ar_N wo, ar_N pp, ar_N yo, ar_N wh, ar_N wt, ar_N wi, ar_N tr, ar_N tg, yone', ytwo', ylv')) ∧ (¬ nI w = 4 → pos2 (nI T') (nI st, nI nd, nI bu, yad, nI wk, nI nx, nI (ct 1), nI (ct 0), nI (ct 2), nI (ct 3), nI (ct 4), nI (ct 5), nI (ct 6), nI (ct 7), yts, nI gi, nI G', ar_N ww, ar_N rg, ar_N ce, gs, ar_N kd, ar_N fa, ybs, ycs, ar_N sg, ywd', ar_O so, ycd, yws, ar_N nb, ar_N sy, ar_N vl, ar_N pv, ar_N pc, ygu, ar_N gv, ar_N dn, ar_N wo, ar_N pp, ar_N yo, ar_N wh, ar_N wt, ar_N wi, ar_N tr, ar_N tg, yone', ytwo', ylv'))) → wpY_derive pos2 (nI st, nI nd, nI bu, yad, nI wk, nI nx, nI (ct 1), nI (ct 0), nI (ct 2), nI (ct 3), nI (ct 4), nI (ct 5), nI (ct 6), nI (ct 7), yts, nI gi, yga, ar_N ww, ar_N rg, ar_N ce, gs, ar_N kd, ar_N fa, ybs, ycs, ar_N sg, ywd, ar_O so, ycd, yws, ar_N nb, ar_N sy, ar_N vl, ar_N pv, ar_N pc, ygu, ar_N gv, ar_N dn, ar_N wo, ar_N pp, ar_N yo, ar_N wh, ar_N wt, ar_N wi, ar_N tr, ar_N tg, yone, ytwo, ylv) (nI w) (nI n) := by
      intro pos2 hp
      refine Y1 (by omega) _ ?_
      unfold wY_derive_89
      refine m2 _ (br_f (nw (q := 0) (by omega) w0) (br_f (nw (q := 2) (by omega) (by omega)) (br_f (nw (q := 3) (by omega) (by omega)) ?_)))
      refine i3 _ ?_
      exact hp
    exact br_c (fun q => e89 _ (br_t q ⟨rfl, JJ⟩)) (fun q => e89 _ (br_f q ⟨rfl, JJ⟩))
section
variable {st nd bu nx wk kc1 kc0 kc2 kc3 kc4 kc5 kc6 kc7 gi ad : Nat} {xad xga xto yad yts yga : Int32} {kd sb tc sg wd fa ww so rg ce nm xdn xsn xpr xcl ct nb sy vl pv pc gv dn wo pp yo wh wt wi tr tg cd ws : Nat → Nat} {gs xcd xws xon xgu xlf xrt xlv ybs ycs ywd ycd yws ygu yone ytwo ylv : Nat → Int32} {xtr : Nat → Int64}
variable {posu : SX → Prop}
theorem xq_in265 (hp : posu (nI st, nI nd, nI bu, xad, nI nx, xga, xto, ar_N kd, ar_N sb, ar_N tc, ar_N sg, ar_N wd, ar_N fa, ar_N ww, gs, ar_O so, xcd, xws, ar_N rg, ar_N ce, ar_O (ar_fl nm 0 5), xon, xgu, ar_N xdn, ar_N xsn, ar_N xpr, ar_N xcl, xtr, ar_N ct, xlf, xrt, xlv)) : ∀ d j, j + d = 5 → wX_init_265 posu (nI st) (nI nd) (nI bu) xad (nI nx) xga xto (d + 1) (nI j) (ar_N kd) (ar_N sb) (ar_N tc) (ar_N sg) (ar_N wd) (ar_N fa) (ar_N ww) gs (ar_O so) xcd xws (ar_N rg) (ar_N ce) (ar_O (ar_fl nm 0 j)) xon xgu (ar_N xdn) (ar_N xsn) (ar_N xpr) (ar_N xcl) xtr (ar_N ct) xlf xrt xlv := by
  intro d
  induction d with
  | zero =>
    intro j hj
    have e : j = 5 := by omega
    subst e
    rw [wX_init_265]
    exact br_t (by decide) hp
  | succ d ih =>
    intro j hj
    have i1 := ih (j + 1) (by omega)
    rw [wX_init_265]
    refine br_f (nI_ge (b := 5) (by omega) (by omega)) ⟨vp_in_nI (by omega) (by omega), fun y ey w ew => ?_⟩
    rw [nI_clamp (by omega), show (-1 : Int32) = ar_i 0 from rfl, ar_uO] at ey
    rw [ey, ew, nI_1]
    exact i1
theorem xq_in244 (hp : ∃ f, wX_init_265 posu (nI st) (nI nd) (nI bu) xad (nI nx) xga xto f (nI 0) (ar_N kd) (ar_N sb) (ar_N tc) (ar_N sg) (ar_N wd) (ar_N fa) (ar_N ww) gs (ar_O (ar_fl so 0 7)) xcd xws (ar_N rg) (ar_N ce) (ar_O nm) xon xgu (ar_N xdn) (ar_N xsn) (ar_N xpr) (ar_N xcl) xtr (ar_N ct) xlf xrt xlv) : ∀ d j, j + d = 7 → wX_init_244 posu (nI st) (nI nd) (nI bu) xad (nI nx) xga xto (d + 1) (nI j) (ar_N kd) (ar_N sb) (ar_N tc) (ar_N sg) (ar_N wd) (ar_N fa) (ar_N ww) gs (ar_O (ar_fl so 0 j)) xcd xws (ar_N rg) (ar_N ce) (ar_O nm) xon xgu (ar_N xdn) (ar_N xsn) (ar_N xpr) (ar_N xcl) xtr (ar_N ct) xlf xrt xlv := by
  intro d
  induction d with
  | zero =>
    intro j hj
    have e : j = 7 := by omega
    subst e
    rw [wX_init_244]
    exact br_t (by decide) hp
  | succ d ih =>
    intro j hj
    have i1 := ih (j + 1) (by omega)
    rw [wX_init_244]
    refine br_f (nI_nlt (a := 6) (by omega) (by omega)) ⟨vp_in_nI (by omega) (by omega), fun y ey w ew => ?_⟩
    rw [nI_clamp (by omega), show vp_nar .byte (-1) = ar_i 0 from ar_by1, ar_uO] at ey
    rw [ey, ew, nI_1]
    exact i1
theorem xq_in214 (hp : ∃ f, wX_init_244 posu (nI st) (nI nd) (nI bu) xad (nI nx) xga xto f (nI 0) (ar_N kd) (ar_N sb) (ar_N tc) (ar_N sg) (ar_N wd) (ar_N fa) (ar_N (ar_fl ww 8 6)) (ar_fg gs 9 6) (ar_O so) xcd xws (ar_N rg) (ar_N ce) (ar_O nm) xon xgu (ar_N xdn) (ar_N xsn) (ar_N xpr) (ar_N xcl) xtr (ar_N ct) xlf xrt xlv) : ∀ d j, j + d = 6 → wX_init_214 posu (nI st) (nI nd) (nI bu) xad (nI nx) xga xto (d + 1) (nI j) (ar_N kd) (ar_N sb) (ar_N tc) (ar_N sg) (ar_N wd) (ar_N fa) (ar_N (ar_fl ww 8 j)) (ar_fg gs 9 j) (ar_O so) xcd xws (ar_N rg) (ar_N ce) (ar_O nm) xon xgu (ar_N xdn) (ar_N xsn) (ar_N xpr) (ar_N xcl) xtr (ar_N ct) xlf xrt xlv := by
  intro d
  induction d with
  | zero =>
    intro j hj
    have e : j = 6 := by omega
    subst e
    rw [wX_init_214]
    exact br_t (by decide) hp
  | succ d ih =>
    intro j hj
    have i1 := ih (j + 1) (by omega)
    rw [wX_init_214]
    refine br_f (nI_ge (b := 6) (by omega) (by omega)) ⟨vp_in_nI (by omega) (by omega), fun y ey => ⟨vp_in_nI (by omega) (by omega), fun z ez w ew => ?_⟩⟩
    rw [nI_clamp (by omega), show vp_nar .byte 8 = nI 8 from ar_byR 8 (by omega), ar_uN] at ey
    rw [nI_clamp (by omega), show vp_nar .byte 9 = 9 from ar_byR 9 (by omega)] at ez
    rw [ey, ez, ew, nI_1]
    exact i1
end
theorem i_vc0 : wpX_init (fun u => wpY_init (fun v => i_Rel 0 u v)) := by
  have zN : (fun _ => 0 : Nat → Int32) = ar_N (fun _ => 0) := rfl
  have zO : (fun _ => 0 : Nat → Int32) = ar_O (fun _ => 1) := rfl
  refine ⟨7, ?_⟩
  refine xq_in214 (st := 1) (nd := 0) (bu := 0) (nx := 0) (kd := fun _ => 0) (sb := fun _ => 0) (tc := fun _ => 0) (sg := fun _ => 0) (wd := fun _ => 0) (fa := fun _ => 0) (ww := fun _ => 0) (so := fun _ => 1) (rg := fun _ => 0) (ce := fun _ => 0) (nm := fun _ => 1) (xdn := fun _ => 0) (xsn := fun _ => 0) (xpr := fun _ => 0) (xcl := fun _ => 0) (ct := fun _ => 0) (gs := fun _ => 0) ⟨8, ?_⟩ 6 0 (by omega)
  refine xq_in244 (so := fun _ => 1) ⟨6, ?_⟩ 7 0 (by omega)
  refine xq_in265 (nm := fun _ => 1) ?_ 5 0 (by omega)
  unfold wpY_init
  intro a1 e1 a2 e2 a3 e3 a4 e4 a5 e5 a6 e6 a7 e7 a8 e8 a9 e9 a10 e10 a11 e11 a12 e12 a13 e13 a14 e14 a15 e15 a16 e16 a17 e17 a18 e18 a19 e19
  have ew : a6 = ar_N (ar_fl (fun _ => 0) 8 6) := by
    rw [e6, e5, e4, e3, e2, e1, zN, show (8 : Int32) = nI 8 from rfl, ar_uN, ar_uN, ar_uN, ar_uN, ar_uN, ar_uN]
    rfl
  have eg : a12 = ar_fg (fun _ => 0) 9 6 := by
    rw [e12, e11, e10, e9, e8, e7]
    rfl
  have es : a19 = ar_O (ar_fl (fun _ => 1) 0 7) := by
    rw [e19, e18, e17, e16, e15, e14, e13, zO, show (-1 : Int32) = ar_i 0 from rfl, ar_uO, ar_uO, ar_uO, ar_uO, ar_uO, ar_uO, ar_uO]
    rfl
  have en : ar_fl (fun _ => 1) 0 5 = ar_nz := by
    funext i
    unfold ar_nz
    by_cases h : i < 5
    · rw [if_pos h, ar_flI _ _ _ _ h]
    · rw [if_neg h]
      show ar_u (ar_u (ar_u (ar_u (ar_u (fun _ => 1) 0 0) 1 0) 2 0) 3 0) 4 0 i = 1
      rw [ar_un (by omega), ar_un (by omega), ar_un (by omega), ar_un (by omega), ar_un (by omega)]
  rw [ew, eg, es, en]
  refine re_in (st := 1) (nd := 0) (bu := 0) (nx := 0) (wk := 0) (gi := 0) (ad := 0) (kd := fun _ => 0) (sb := fun _ => 0) (tc := fun _ => 0) (sg := fun _ => 0) (wd := fun _ => 0) (fa := fun _ => 0) (ww := ar_fl (fun _ => 0) 8 6) (so := ar_fl (fun _ => 1) 0 7) (rg := fun _ => 0) (ce := fun _ => 0) (nm := ar_nz) (xdn := fun _ => 0) (xsn := fun _ => 0) (xpr := fun _ => 0) (xcl := fun _ => 0) (ct := fun _ => 0) (nb := fun _ => 0) (sy := fun _ => 0) (vl := fun _ => 0) (pv := fun _ => 0) (pc := fun _ => 0) (gv := fun _ => 0) (dn := fun _ => 0) (wo := fun _ => 0) (pp := fun _ => 0) (yo := fun _ => 0) (wh := fun _ => 0) (wt := fun _ => 0) (wi := fun _ => 0) (tr := fun _ => 0) (tg := fun _ => 0) (cd := fun _ => 0) (ws := fun _ => 0) (gs := ar_fg (fun _ => 0) 9 6) ?_
  refine re_idle (ct := fun _ => 0) ⟨⟨by omega, by omega, by omega⟩, fun n h => absurd h (by omega), fun r hr => ?_, fun t ht => ?_, fun h => ?_⟩ (fun i => ⟨show (0 : Nat) < 16 by decide, show (0 : Nat) ≤ 1 by decide⟩) ⟨fun r hr => ?_, fun k _ => show (0 : Nat) < 256 by decide, show (0 : Nat) ≤ 7 * 0 by decide, fun i => ⟨?_, show (0 : Nat) < 65536 by decide, show (0 : Nat) < 65536 by decide, show (0 : Nat) < 536870912 by decide⟩⟩ (fun i _ => rfl) (show (0 : Nat) ≤ 20 * 0 by decide)
  · rw [ar_flI _ _ _ _ hr, ar_fgI _ _ _ _ hr]
    exact ⟨by omega, by omega, by decide⟩
  · rw [ar_flI _ _ _ _ ht]
    exact ⟨by omega, fun h => absurd rfl h⟩
  · exact absurd (ar_flI _ _ 7 6 (by omega)) h
  · rw [ar_flI _ _ _ _ hr]
    show (0 : Nat) < 2 ^ 8
    decide
  · show (0 : Int64) = lN (0 * 4294967296 + 0 * 65536 + 0)
    rw [Nat.zero_mul]
    rfl
end
