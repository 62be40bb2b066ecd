section
/-! pure rows to paste: stores, nI and lN arithmetic, masks, shifts, narrowing, branches by naturals (pk_le, pk_lt, pk_eq), loops (lp1 .. lp16: the measure of the state; rp1 ..: recursion), negatives. Take what you need -/
theorem pk_us {f : Nat → Int32} {k : Nat} {x : Int32} : upd f k x k = x := if_pos rfl
theorem pk_un {f : Nat → Int32} {k j : Nat} {x : Int32} (h : j ≠ k) : upd f k x j = f j := if_neg h
theorem pk_sub {a b : Nat} (h : b ≤ a) : nI a - nI b = nI (a - b) := by
  obtain ⟨c, rfl⟩ : ∃ c, a = c + b := ⟨a - b, by omega⟩
  rw [← nI_add, Int32.add_sub_cancel, Nat.add_sub_cancel]
theorem pk_m1 (n : Nat) : nI (n + 1) + (-1) = nI n := by
  rw [← nI_1, Int32.add_assoc, show (1 : Int32) + (-1) = 0 from rfl, Int32.add_zero]
theorem pk_mul (a b : Nat) : nI a * nI b = nI (a * b) := (Int32.ofNat_mul a b).symm
theorem pk_div {a d : Nat} (ha : a < 2 ^ 31) (h0 : 0 < d) (hd : d < 2 ^ 31) : nI a / nI d = nI (a / d) := by
  apply Int32.toInt_inj.mp
  rw [lg_idiv_nonneg (by rw [nI_toInt ha]; omega) (by rw [nI_toInt hd]; omega), nI_toInt ha, nI_toInt hd, nI_toInt (Nat.lt_of_le_of_lt (Nat.div_le_self a d) ha)]
  first | rfl | exact (Int.natCast_ediv _ _).symm
theorem pk_rem {a d : Nat} (ha : a < 2 ^ 31) (h0 : 0 < d) (hd : d < 2 ^ 31) : nI a - nI a / nI d * nI d = nI (a % d) := by
  rw [pk_div ha h0 hd, pk_mul, pk_sub (Nat.div_mul_le_self a d)]
  exact congrArg nI (by have := Nat.div_add_mod' a d; omega)
theorem pk_sub_toInt {a b : Nat} (ha : a < 2 ^ 30) (hb : b < 2 ^ 30) : (nI a - nI b).toInt = (a : Int) - b := by
  rw [Int32.toInt_sub, nI_toInt (by omega), nI_toInt (by omega)]
  exact Int.bmod_eq_of_le (by omega) (by omega)
theorem pk_sneg {a b : Nat} (hb : b < 2 ^ 30) (h : a < b) : nI a - nI b < 0 := by
  rw [Int32.lt_iff_toInt_lt, pk_sub_toInt (by omega) hb, show (0 : Int32).toInt = 0 from by decide]
  omega
theorem pk_ix (x : Int32) {n : Nat} (hn : n < 2 ^ 31) : x < 0 ∨ nI n ≤ x ∨ ∃ j : Nat, j < n ∧ x = nI j := by
  by_cases h : x < 0
  · exact Or.inl h
  · obtain ⟨j, hj, rfl⟩ := nI_of h
    by_cases h2 : j < n
    · exact Or.inr (Or.inr ⟨j, h2, rfl⟩)
    · exact Or.inr (Or.inl (nI_le (by omega) hj))
theorem pk_le {x y : Int32} {A B : Prop} (a b : Nat) (f : a ≤ b → A) (g : b < a → B) (hx : x = nI a := by rfl) (hy : y = nI b := by rfl) (ha : a < 2 ^ 31 := by omega) (hb : b < 2 ^ 31 := by omega) : (x ≤ y → A) ∧ (¬ x ≤ y → B) := by
  subst hx hy
  rw [nI_leI ha hb]
  exact ⟨f, fun z => g (by omega)⟩
theorem pk_lt {x y : Int32} {A B : Prop} (a b : Nat) (f : a < b → A) (g : b ≤ a → B) (hx : x = nI a := by rfl) (hy : y = nI b := by rfl) (ha : a < 2 ^ 31 := by omega) (hb : b < 2 ^ 31 := by omega) : (x < y → A) ∧ (¬ x < y → B) := by
  subst hx hy
  rw [nI_ltI ha hb]
  exact ⟨f, fun z => g (by omega)⟩
theorem pk_eq {x y : Int32} {A B : Prop} (a b : Nat) (f : a = b → A) (g : a ≠ b → B) (hx : x = nI a := by rfl) (hy : y = nI b := by rfl) (ha : a < 2 ^ 31 := by omega) (hb : b < 2 ^ 31 := by omega) : (x = y → A) ∧ (¬ x = y → B) := by
  subst hx hy
  rw [nI_eq ha hb]
  exact ⟨f, g⟩
theorem pk_in {x : Int32} (n N : Nat) (h : n < N) (hx : x = nI n := by rfl) (hN : N < 2 ^ 31 := by omega) : vp_in x N := by
  subst hx
  exact vp_in_nI h hN
theorem pk_cl {x : Int32} (n : Nat) (hx : x = nI n := by rfl) (h : n < 2 ^ 31 := by omega) : x.toNatClampNeg = n := by
  subst hx
  exact nI_clamp h
theorem pk_tn {n : Nat} (h : n < 2 ^ 32) : (nI n).toBitVec.toNat = n := Nat.mod_eq_of_lt h
theorem pk_and (x : Int32) {m : Int32} (k : Nat) (hm : m.toBitVec.toNat = 2 ^ k - 1) : x &&& m = nI (x.toBitVec.toNat % 2 ^ k) := by
  apply Int32.toBitVec_inj.mp
  apply BitVec.eq_of_toNat_eq
  rw [Int32.toBitVec_and, BitVec.toNat_and, hm, Nat.and_two_pow_sub_one_eq_mod]
  show _ = (BitVec.ofNat 32 _).toNat
  rw [BitVec.toNat_ofNat]
  exact (Nat.mod_eq_of_lt (Nat.lt_of_le_of_lt (Nat.mod_le _ _) x.toBitVec.isLt)).symm
theorem pk_andN {n : Nat} (h : n < 2 ^ 32) {m : Int32} (k : Nat) (hm : m.toBitVec.toNat = 2 ^ k - 1) : nI n &&& m = nI (n % 2 ^ k) := by
  rw [pk_and _ k hm, pk_tn h]
theorem pk_andE (x : Int32) {m : Int32} (k : Nat) (hm : m.toBitVec.toNat = 2 ^ k - 1) : ∃ j : Nat, j < 2 ^ k ∧ x &&& m = nI j := ⟨_, Nat.mod_lt _ (Nat.two_pow_pos k), pk_and x k hm⟩
theorem pk_andIn (x : Int32) {m : Int32} (k : Nat) (hm : m.toBitVec.toNat = 2 ^ k - 1) (hk : k ≤ 30) : vp_in (x &&& m) (2 ^ k) := by
  obtain ⟨j, hj, e⟩ := pk_andE x k hm
  rw [e]
  exact vp_in_nI hj (Nat.lt_of_le_of_lt (Nat.pow_le_pow_right (by decide) hk) (by decide))
theorem pk_shl (a s : Int32) (k : Nat) (hs : (s.toBitVec.smod 32).toNat = k) : (a <<< s).toBitVec.toNat = a.toBitVec.toNat * 2 ^ k % 2 ^ 32 := by
  show (a.toBitVec <<< (s.toBitVec.smod 32).toNat).toNat = _
  rw [hs, BitVec.toNat_shiftLeft, Nat.shiftLeft_eq]
theorem pk_shlN {n : Nat} (s : Int32) (k : Nat) (hs : (s.toBitVec.smod 32).toNat = k) (h : n * 2 ^ k < 2 ^ 32) : nI n <<< s = nI (n * 2 ^ k) := by
  apply Int32.toBitVec_inj.mp
  apply BitVec.eq_of_toNat_eq
  have hn : n < 2 ^ 32 := Nat.lt_of_le_of_lt (Nat.le_mul_of_pos_right n (Nat.two_pow_pos k)) h
  rw [pk_shl _ _ k hs, pk_tn hn, pk_tn h, Nat.mod_eq_of_lt h]
theorem pk_shr (a s : Int32) (k : Nat) (hs : (s.toBitVec.smod 32).toNat = k) : (a >>> s).toInt = a.toInt >>> k := by
  show (a.toBitVec.sshiftRight (s.toBitVec.smod 32).toNat).toInt = _
  rw [hs, BitVec.toInt_sshiftRight]
  rfl
theorem pk_shrN {n : Nat} (h : n < 2 ^ 31) (s : Int32) (k : Nat) (hs : (s.toBitVec.smod 32).toNat = k) : nI n >>> s = nI (n / 2 ^ k) := by
  apply Int32.toInt_inj.mp
  have h2 : n / 2 ^ k ≤ n := Nat.div_le_self _ _
  rw [pk_shr _ _ k hs, nI_toInt h, nI_toInt (by omega), Int.shiftRight_eq_div_pow]
  rfl
theorem pk_ushr (x s : Int32) (k : Nat) (hs : ((s.toUInt32 &&& Int32.toUInt32 31).toBitVec % 32).toNat = k) : (x.toUInt32 >>> (s.toUInt32 &&& Int32.toUInt32 31)).toInt32.toBitVec.toNat = x.toBitVec.toNat / 2 ^ k := by
  have e : (x.toUInt32 >>> (s.toUInt32 &&& Int32.toUInt32 31)).toInt32.toBitVec = x.toBitVec >>> k := by
    rw [← hs]
    exact UInt32.toBitVec_shiftRight _ _
  rw [e, BitVec.toNat_ushiftRight, Nat.shiftRight_eq_div_pow]
theorem pk_ushrN {n : Nat} (hn : n < 2 ^ 32) (s : Int32) (k : Nat) (hs : ((s.toUInt32 &&& Int32.toUInt32 31).toBitVec % 32).toNat = k) : ((nI n).toUInt32 >>> (s.toUInt32 &&& Int32.toUInt32 31)).toInt32 = nI (n / 2 ^ k) := by
  apply Int32.toBitVec_inj.mp
  apply BitVec.eq_of_toNat_eq
  rw [pk_ushr _ s k hs, pk_tn hn, pk_tn (Nat.lt_of_le_of_lt (Nat.div_le_self _ _) hn)]
/-! ===== Int32 by its bits: bt x i ===== -/
def bt (x : Int32) (i : Nat) : Bool := x.toBitVec.getLsbD i
theorem b_ext {x y : Int32} (h : ∀ i, i < 32 → bt x i = bt y i) : x = y := Int32.toBitVec_inj.mp (BitVec.eq_of_getLsbD_eq (fun i hi => h i hi))
theorem b_or (x y : Int32) (i : Nat) : bt (x ||| y) i = (bt x i || bt y i) := by unfold bt; rw [Int32.toBitVec_or, BitVec.getLsbD_or]
theorem b_and (x y : Int32) (i : Nat) : bt (x &&& y) i = (bt x i && bt y i) := by unfold bt; rw [Int32.toBitVec_and, BitVec.getLsbD_and]
theorem b_xor (x y : Int32) (i : Nat) : bt (x ^^^ y) i = (bt x i ^^ bt y i) := by unfold bt; rw [Int32.toBitVec_xor, BitVec.getLsbD_xor]
theorem b_big {x : Int32} {i : Nat} (h : 32 ≤ i) : bt x i = false := BitVec.getLsbD_of_ge _ _ h
theorem b_65535 (i : Nat) : bt 65535 i = decide (i < 16) := by
  rcases Nat.lt_or_ge i 32 with h | h
  · exact (by decide +kernel : ∀ i, i < 32 → bt 65535 i = decide (i < 16)) i h
  · rw [b_big h, decide_eq_false (by omega)]
theorem b_m1 : ∀ i, i < 32 → bt (-1) i = true := by decide +kernel
theorem b_0 (i : Nat) : bt 0 i = false := BitVec.getLsbD_zero
theorem s_l : ∀ n, n < 32 → ((nI n &&& 31).toBitVec.smod 32).toNat = n := by decide +kernel
theorem s_u : ∀ n, n < 32 → (((nI n).toUInt32 &&& Int32.toUInt32 31).toBitVec % 32).toNat = n := by decide +kernel
theorem b_shl (n : Nat) (hn : n < 32) (x : Int32) {i : Nat} (hi : i < 32) : bt (x <<< (nI n &&& 31)) i = (decide (n ≤ i) && bt x (i - n)) := by
  unfold bt
  rw [Int32.toBitVec_shiftLeft]
  show (x.toBitVec <<< ((nI n &&& 31).toBitVec.smod 32).toNat).getLsbD i = _
  rw [s_l n hn, BitVec.getLsbD_shiftLeft]
  rcases Nat.lt_or_ge i n with h | h
  · simp [h, Nat.not_le.mpr h]
  · simp [hi, h, Nat.not_lt.mpr h]
theorem b_ushr (n : Nat) (hn : n < 32) (x : Int32) (i : Nat) : bt ((x.toUInt32 >>> ((nI n).toUInt32 &&& Int32.toUInt32 31)).toInt32) i = bt x (n + i) := by
  show (x.toUInt32 >>> ((nI n).toUInt32 &&& Int32.toUInt32 31)).toBitVec.getLsbD i = x.toUInt32.toBitVec.getLsbD (n + i)
  rw [UInt32.toBitVec_shiftRight]
  show (x.toUInt32.toBitVec >>> (((nI n).toUInt32 &&& Int32.toUInt32 31).toBitVec % 32).toNat).getLsbD i = _
  rw [s_u n hn, BitVec.getLsbD_ushiftRight]
theorem b_sshr (n : Nat) (hn : n < 32) (x : Int32) {i : Nat} (hi : i < 32) : bt (x >>> (nI n &&& 31)) i = if n + i < 32 then bt x (n + i) else bt x 31 := by
  unfold bt
  rw [Int32.toBitVec_shiftRight]
  show (x.toBitVec.sshiftRight ((nI n &&& 31).toBitVec.smod 32).toNat).getLsbD i = _
  rw [s_l n hn, BitVec.getLsbD_sshiftRight, BitVec.msb_eq_getLsbD_last]
  simp [hi]
end
section
/-! codes as rows of five digits to the base seven -/
def hb_P (i : Nat) : Nat := 7 ^ (4 - i)
def hb_d (c i : Nat) : Nat := c / hb_P i % 7
def hb_c (f : Nat → Nat) : Nat := 2401 * f 0 + 343 * f 1 + 49 * f 2 + 7 * f 3 + f 4
theorem hb_d0 (c : Nat) : hb_d c 0 = c / 2401 % 7 := rfl
theorem hb_d1 (c : Nat) : hb_d c 1 = c / 343 % 7 := rfl
theorem hb_d2 (c : Nat) : hb_d c 2 = c / 49 % 7 := rfl
theorem hb_d3 (c : Nat) : hb_d c 3 = c / 7 % 7 := rfl
theorem hb_d4 (c : Nat) : hb_d c 4 = c % 7 := by
  show c / 1 % 7 = c % 7
  rw [Nat.div_one]
theorem hb_d7 (c i : Nat) : hb_d c i < 7 := Nat.mod_lt _ (by decide)
theorem hb_5 {p : Nat → Prop} (h0 : p 0) (h1 : p 1) (h2 : p 2) (h3 : p 3) (h4 : p 4) : ∀ i, i < 5 → p i := by
  intro i hi
  have h : i = 0 ∨ i = 1 ∨ i = 2 ∨ i = 3 ∨ i = 4 := by omega
  rcases h with rfl | rfl | rfl | rfl | rfl
  · exact h0
  · exact h1
  · exact h2
  · exact h3
  · exact h4
theorem hb_cd {c : Nat} (h : c < 16807) : hb_c (hb_d c) = c := by
  unfold hb_c
  rw [hb_d0, hb_d1, hb_d2, hb_d3, hb_d4]
  omega
theorem hb_sp {c : Nat} (h : c < 16807) : c = 2401 * hb_d c 0 + 343 * hb_d c 1 + 49 * hb_d c 2 + 7 * hb_d c 3 + hb_d c 4 := (hb_cd h).symm
theorem hb_clt {f : Nat → Nat} (h : ∀ i, i < 5 → f i < 7) : hb_c f < 16807 := by
  have h0 := h 0 (by decide)
  have h1 := h 1 (by decide)
  have h2 := h 2 (by decide)
  have h3 := h 3 (by decide)
  have h4 := h 4 (by decide)
  unfold hb_c
  omega
theorem hb_dc {f : Nat → Nat} (h : ∀ i, i < 5 → f i < 7) : ∀ i, i < 5 → hb_d (hb_c f) i = f i := by
  have h0 := h 0 (by decide)
  have h1 := h 1 (by decide)
  have h2 := h 2 (by decide)
  have h3 := h 3 (by decide)
  have h4 := h 4 (by decide)
  refine hb_5 ?_ ?_ ?_ ?_ ?_
  · rw [hb_d0]; unfold hb_c; omega
  · rw [hb_d1]; unfold hb_c; omega
  · rw [hb_d2]; unfold hb_c; omega
  · rw [hb_d3]; unfold hb_c; omega
  · rw [hb_d4]; unfold hb_c; omega
theorem hb_eq {a c : Nat} (ha : a < 16807) (hc : c < 16807) (h : ∀ i, i < 5 → hb_d a i = hb_d c i) : a = c := by
  have h0 := h 0 (by decide)
  have h1 := h 1 (by decide)
  have h2 := h 2 (by decide)
  have h3 := h 3 (by decide)
  have h4 := h 4 (by decide)
  rw [hb_sp ha, hb_sp hc, h0, h1, h2, h3, h4]
/-- no number of the one is greater -/
def hb_part (a c : Nat) : Prop := ∀ i, i < 5 → hb_d a i ≤ hb_d c i
theorem hb_prf (a : Nat) : hb_part a a := fun _ _ => Nat.le_refl _
theorem hb_ptr {a b c : Nat} (h : hb_part a b) (h' : hb_part b c) : hb_part a c := fun i hi => Nat.le_trans (h i hi) (h' i hi)
theorem hb_pas {a c : Nat} (ha : a < 16807) (hc : c < 16807) (h : hb_part a c) (h' : hb_part c a) : a = c :=
  hb_eq ha hc fun i hi => Nat.le_antisymm (h i hi) (h' i hi)
theorem hb_ple {a c : Nat} (ha : a < 16807) (hc : c < 16807) (h : hb_part a c) : a ≤ c := by
  have h0 := h 0 (by decide)
  have h1 := h 1 (by decide)
  have h2 := h 2 (by decide)
  have h3 := h 3 (by decide)
  have h4 := h 4 (by decide)
  have ea := hb_sp ha
  have ec := hb_sp hc
  omega
theorem hb_dsub {a c : Nat} (ha : a < 16807) (hc : c < 16807) (h : hb_part a c) : ∀ i, i < 5 → hb_d (c - a) i = hb_d c i - hb_d a i := by
  have h0 := h 0 (by decide)
  have h1 := h 1 (by decide)
  have h2 := h 2 (by decide)
  have h3 := h 3 (by decide)
  have h4 := h 4 (by decide)
  have ea := hb_sp ha
  have ec := hb_sp hc
  have e : c - a = hb_c (fun i => hb_d c i - hb_d a i) := by
    show c - a = 2401 * (hb_d c 0 - hb_d a 0) + 343 * (hb_d c 1 - hb_d a 1) + 49 * (hb_d c 2 - hb_d a 2) + 7 * (hb_d c 3 - hb_d a 3) + (hb_d c 4 - hb_d a 4)
    omega
  rw [e]
  exact hb_dc fun i _ => Nat.lt_of_le_of_lt (Nat.sub_le _ _) (hb_d7 c i)
theorem hb_dsum {a c : Nat} (ha : a < 16807) (hc : c < 16807) (h : hb_part a c) : ∀ i, i < 5 → hb_d c i = hb_d a i + hb_d (c - a) i := by
  intro i hi
  have := h i hi
  rw [hb_dsub ha hc h i hi]
  omega
theorem hb_psub {a c : Nat} (ha : a < 16807) (hc : c < 16807) (h : hb_part a c) : hb_part (c - a) c := by
  intro i hi
  rw [hb_dsub ha hc h i hi]
  exact Nat.sub_le _ _
/-! sums and sizes -/
def hb_ps (w : Nat → Int) (c : Nat) : Nat → Int
  | 0 => 0
  | n + 1 => hb_ps w c n + (hb_d c n : Int) * w n
def hb_s (w : Nat → Int) (c : Nat) : Int := hb_ps w c 5
def hb_zs (c : Nat) : Nat → Nat
  | 0 => 0
  | n + 1 => hb_zs c n + hb_d c n
def hb_z (c : Nat) : Nat := hb_zs c 5
theorem hb_ps_add {w : Nat → Int} {a b c : Nat} : ∀ n, (∀ i, i < n → hb_d c i = hb_d a i + hb_d b i) → hb_ps w c n = hb_ps w a n + hb_ps w b n
  | 0, _ => by simp [hb_ps]
  | n + 1, h => by
    have e := hb_ps_add (w := w) n (fun i hi => h i (by omega))
    simp only [hb_ps]
    rw [e, h n (by omega), Int.natCast_add, Int.add_mul]
    omega
theorem hb_s_add {w : Nat → Int} {a b c : Nat} (h : ∀ i, i < 5 → hb_d c i = hb_d a i + hb_d b i) : hb_s w c = hb_s w a + hb_s w b := hb_ps_add 5 h
theorem hb_ssub {w : Nat → Int} {a c : Nat} (ha : a < 16807) (hc : c < 16807) (h : hb_part a c) : hb_s w c = hb_s w a + hb_s w (c - a) := hb_s_add (hb_dsum ha hc h)
theorem hb_mulb {d : Nat} {w : Int} (hd : d < 7) (h1 : -6 ≤ w) (h2 : w ≤ 6) : -36 ≤ (d : Int) * w ∧ (d : Int) * w ≤ 36 := by
  have h : d = 0 ∨ d = 1 ∨ d = 2 ∨ d = 3 ∨ d = 4 ∨ d = 5 ∨ d = 6 := by omega
  rcases h with rfl | rfl | rfl | rfl | rfl | rfl | rfl <;> omega
theorem hb_psb {w : Nat → Int} (hw : ∀ i, i < 5 → -6 ≤ w i ∧ w i ≤ 6) (c : Nat) : ∀ n : Nat, n ≤ 5 → -(36 * (n : Int)) ≤ hb_ps w c n ∧ hb_ps w c n ≤ 36 * (n : Int)
  | 0, _ => by simp [hb_ps]
  | n + 1, h => by
    have e := hb_psb hw c n (by omega)
    have m := hb_mulb (hb_d7 c n) (hw n (by omega)).1 (hw n (by omega)).2
    simp only [hb_ps]
    omega
theorem hb_sb {w : Nat → Int} (hw : ∀ i, i < 5 → -6 ≤ w i ∧ w i ≤ 6) (c : Nat) : -180 ≤ hb_s w c ∧ hb_s w c ≤ 180 := by
  have h := hb_psb hw c 5 (by decide)
  unfold hb_s
  omega
theorem hb_z5 (c : Nat) : hb_z c = hb_d c 0 + hb_d c 1 + hb_d c 2 + hb_d c 3 + hb_d c 4 := by
  simp only [hb_z, hb_zs, Nat.zero_add]
theorem hb_z30 (c : Nat) : hb_z c ≤ 30 := by
  have h0 := hb_d7 c 0
  have h1 := hb_d7 c 1
  have h2 := hb_d7 c 2
  have h3 := hb_d7 c 3
  have h4 := hb_d7 c 4
  rw [hb_z5]
  omega
theorem hb_z0 {c : Nat} (hc : c < 16807) (h : hb_z c = 0) : c = 0 := by
  have e := hb_sp hc
  rw [hb_z5] at h
  omega
theorem hb_d00 (i : Nat) : hb_d 0 i = 0 := by
  unfold hb_d
  rw [Nat.zero_div, Nat.zero_mod]
theorem hb_zz : hb_z 0 = 0 := by
  rw [hb_z5, hb_d00, hb_d00, hb_d00, hb_d00, hb_d00]
theorem hb_zle {a c : Nat} (h : hb_part a c) : hb_z a ≤ hb_z c := by
  have h0 := h 0 (by decide)
  have h1 := h 1 (by decide)
  have h2 := h 2 (by decide)
  have h3 := h 3 (by decide)
  have h4 := h 4 (by decide)
  rw [hb_z5, hb_z5]
  omega
theorem hb_zeq {a c : Nat} (ha : a < 16807) (hc : c < 16807) (h : hb_part a c) (hz : hb_z c ≤ hb_z a) : a = c := by
  have h0 := h 0 (by decide)
  have h1 := h 1 (by decide)
  have h2 := h 2 (by decide)
  have h3 := h 3 (by decide)
  have h4 := h 4 (by decide)
  rw [hb_z5, hb_z5] at hz
  refine hb_eq ha hc (hb_5 ?_ ?_ ?_ ?_ ?_) <;> omega
theorem hb_zlt {a c : Nat} (ha : a < 16807) (hc : c < 16807) (h : hb_part a c) (hne : a ≠ c) : hb_z a < hb_z c :=
  Nat.lt_of_not_le fun hz => hne (hb_zeq ha hc h hz)
theorem hb_s0 (w : Nat → Int) : hb_s w 0 = 0 := by
  simp [hb_s, hb_ps, hb_d00]
theorem hb_p0 {a : Nat} (ha : a < 16807) (h : hb_part a 0) : a = 0 :=
  Nat.le_zero.mp (hb_ple ha (by decide) h)
/-! one unit more -/
def hb_dl (i j : Nat) : Nat := if j = i then 1 else 0
theorem hb_dls (i : Nat) : hb_dl i i = 1 := if_pos rfl
theorem hb_dln {i j : Nat} (h : j ≠ i) : hb_dl i j = 0 := if_neg h
theorem hb_dle {i j : Nat} : hb_dl i j ≤ 1 := by unfold hb_dl; split <;> omega
theorem hb_uc {c : Nat} (hc : c < 16807) : ∀ i, i < 5 → c + hb_P i = hb_c (fun j => hb_d c j + hb_dl i j) := by
  have e := hb_sp hc
  refine hb_5 ?_ ?_ ?_ ?_ ?_
  · show c + 2401 = 2401 * (hb_d c 0 + 1) + 343 * (hb_d c 1 + 0) + 49 * (hb_d c 2 + 0) + 7 * (hb_d c 3 + 0) + (hb_d c 4 + 0)
    omega
  · show c + 343 = 2401 * (hb_d c 0 + 0) + 343 * (hb_d c 1 + 1) + 49 * (hb_d c 2 + 0) + 7 * (hb_d c 3 + 0) + (hb_d c 4 + 0)
    omega
  · show c + 49 = 2401 * (hb_d c 0 + 0) + 343 * (hb_d c 1 + 0) + 49 * (hb_d c 2 + 1) + 7 * (hb_d c 3 + 0) + (hb_d c 4 + 0)
    omega
  · show c + 7 = 2401 * (hb_d c 0 + 0) + 343 * (hb_d c 1 + 0) + 49 * (hb_d c 2 + 0) + 7 * (hb_d c 3 + 1) + (hb_d c 4 + 0)
    omega
  · show c + 1 = 2401 * (hb_d c 0 + 0) + 343 * (hb_d c 1 + 0) + 49 * (hb_d c 2 + 0) + 7 * (hb_d c 3 + 0) + (hb_d c 4 + 1)
    omega
theorem hb_u7 {c i : Nat} (h6 : hb_d c i < 6) : ∀ j, j < 5 → hb_d c j + hb_dl i j < 7 := by
  intro j _
  by_cases e : j = i
  · rw [e, hb_dls]; omega
  · rw [hb_dln e]; exact hb_d7 c j
theorem hb_ult {c i : Nat} (hc : c < 16807) (hi : i < 5) (h6 : hb_d c i < 6) : c + hb_P i < 16807 := by
  rw [hb_uc hc i hi]
  exact hb_clt (hb_u7 h6)
theorem hb_ud {c i : Nat} (hc : c < 16807) (hi : i < 5) (h6 : hb_d c i < 6) : ∀ j, j < 5 → hb_d (c + hb_P i) j = hb_d c j + hb_dl i j := by
  rw [hb_uc hc i hi]
  exact hb_dc (hb_u7 h6)
theorem hb_dlz : ∀ i, i < 5 → hb_dl i 0 + hb_dl i 1 + hb_dl i 2 + hb_dl i 3 + hb_dl i 4 = 1 := by decide
theorem hb_uz {c i : Nat} (hc : c < 16807) (hi : i < 5) (h6 : hb_d c i < 6) : hb_z (c + hb_P i) = hb_z c + 1 := by
  have h := hb_ud hc hi h6
  have e := hb_dlz i hi
  rw [hb_z5, hb_z5, h 0 (by decide), h 1 (by decide), h 2 (by decide), h 3 (by decide), h 4 (by decide)]
  omega
theorem hb_upart {c b i : Nat} (hc : c < 16807) (hi : i < 5) (h : hb_part c b) (hd : hb_d c i < hb_d b i) : hb_part (c + hb_P i) b := by
  intro j hj
  have h7 := hb_d7 b i
  rw [hb_ud hc hi (by omega) j hj]
  by_cases e : j = i
  · rw [e, hb_dls]; omega
  · rw [hb_dln e]; exact h j hj
theorem hb_P_lt : ∀ i, i < 5 → hb_P i < 16807 := by decide
theorem hb_P_pos : ∀ i, i < 5 → 0 < hb_P i := by decide
theorem hb_Pd {i : Nat} (hi : i < 5) : ∀ j, j < 5 → hb_d (hb_P i) j = hb_dl i j := by
  intro j hj
  have h := hb_ud (c := 0) (by decide) hi (by rw [hb_d00]; decide) j hj
  rw [Nat.zero_add, hb_d00, Nat.zero_add] at h
  exact h
theorem hb_Pz {i : Nat} (hi : i < 5) : hb_z (hb_P i) = 1 := by
  have h := hb_uz (c := 0) (by decide) hi (by rw [hb_d00]; decide)
  rw [Nat.zero_add, hb_zz] at h
  exact h
theorem hb_Ppart {i c : Nat} (hi : i < 5) (h : 0 < hb_d c i) : hb_part (hb_P i) c := by
  intro j hj
  rw [hb_Pd hi j hj]
  by_cases e : j = i
  · rw [e, hb_dls]; exact h
  · rw [hb_dln e]; exact Nat.zero_le _
theorem hb_psP {w : Nat → Int} {i : Nat} (hi : i < 5) : ∀ n, n ≤ 5 → hb_ps w (hb_P i) n = if i < n then w i else 0
  | 0, _ => by simp [hb_ps]
  | n + 1, h => by
    have e := hb_psP (w := w) hi n (by omega)
    simp only [hb_ps]
    rw [e, hb_Pd hi n (by omega)]
    by_cases q : n = i
    · subst q
      rw [hb_dls, if_neg (by omega), if_pos (by omega)]
      omega
    · rw [hb_dln q]
      by_cases q2 : i < n
      · rw [if_pos q2, if_pos (by omega)]; omega
      · rw [if_neg q2, if_neg (by omega)]; omega
theorem hb_sP {w : Nat → Int} {i : Nat} (hi : i < 5) : hb_s w (hb_P i) = w i := by
  unfold hb_s
  rw [hb_psP hi 5 (by decide), if_pos hi]
theorem hb_someD {c : Nat} (hc : c < 16807) (h0 : 0 < c) : ∃ i, i < 5 ∧ 0 < hb_d c i := by
  have e := hb_sp hc
  by_cases h : 0 < hb_d c 0
  · exact ⟨0, by decide, h⟩
  by_cases h : 0 < hb_d c 1
  · exact ⟨1, by decide, h⟩
  by_cases h : 0 < hb_d c 2
  · exact ⟨2, by decide, h⟩
  by_cases h : 0 < hb_d c 3
  · exact ⟨3, by decide, h⟩
  by_cases h : 0 < hb_d c 4
  · exact ⟨4, by decide, h⟩
  omega
end
section
/-! least balances -/
def hb_M (w : Nat → Int) (c : Nat) : Prop := 0 < c ∧ c < 16807 ∧ hb_s w c = 0 ∧ ∀ a, 0 < a → a < 16807 → hb_part a c → hb_s w a = 0 → a = c
theorem hb_Mlt {w : Nat → Int} {c : Nat} (h : hb_M w c) : c < 16807 := h.2.1
theorem hb_Mpos {w : Nat → Int} {c : Nat} (h : hb_M w c) : 0 < c := h.1
theorem hb_Ms {w : Nat → Int} {c : Nat} (h : hb_M w c) : hb_s w c = 0 := h.2.2.1
theorem hb_Mm {w : Nat → Int} {c : Nat} (h : hb_M w c) {a : Nat} (h0 : 0 < a) (h1 : a < 16807) (h2 : hb_part a c) (h3 : hb_s w a = 0) : a = c := h.2.2.2 a h0 h1 h2 h3
theorem hb_Manti {w : Nat → Int} {a c : Nat} (ha : hb_M w a) (hc : hb_M w c) (h : hb_part a c) : a = c := hb_Mm hc (hb_Mpos ha) (hb_Mlt ha) h (hb_Ms ha)
theorem hb_ex {w : Nat → Int} : ∀ n c : Nat, c ≤ n → 0 < c → c < 16807 → hb_s w c = 0 → ∃ m, hb_M w m ∧ hb_part m c := by
  intro n
  induction n with
  | zero => intro c h h0; omega
  | succ n ih =>
    intro c hn h0 hc hs
    refine Classical.byContradiction fun h => h ⟨c, ⟨h0, hc, hs, fun a a0 a1 a2 a3 => Classical.byContradiction fun ne => h ?_⟩, hb_prf c⟩
    have le := hb_ple a1 hc a2
    obtain ⟨m, h1, h2⟩ := ih a (by omega) a0 a1 a3
    exact ⟨m, h1, hb_ptr h2 a2⟩
theorem hb_ex' {w : Nat → Int} {c : Nat} (h0 : 0 < c) (hc : c < 16807) (hs : hb_s w c = 0) : ∃ m, hb_M w m ∧ hb_part m c := hb_ex c c (Nat.le_refl c) h0 hc hs
/-- a balance without a smaller least balance as a part is least -/
theorem hb_Mof {w : Nat → Int} {c : Nat} (h0 : 0 < c) (hc : c < 16807) (hs : hb_s w c = 0) (h : ∀ m, hb_M w m → hb_part m c → m = c) : hb_M w c := by
  obtain ⟨m, h1, h2⟩ := hb_ex' h0 hc hs
  rw [h m h1 h2] at h1
  exact h1
theorem hb_psneg {w : Nat → Int} {c : Nat} : ∀ n, hb_ps w c n < 0 → ∃ i, i < n ∧ w i < 0 ∧ 0 < hb_d c i
  | 0, h => by simp [hb_ps] at h
  | n + 1, h => by
    simp only [hb_ps] at h
    by_cases h1 : hb_ps w c n < 0
    · obtain ⟨i, hi, h2⟩ := hb_psneg n h1
      exact ⟨i, by omega, h2⟩
    · have h2 : (hb_d c n : Int) * w n < 0 := by omega
      refine ⟨n, by omega, ?_, ?_⟩
      · refine Int.not_le.mp fun h3 => ?_
        have := Int.mul_nonneg (Int.natCast_nonneg (hb_d c n)) h3
        omega
      · refine Nat.pos_of_ne_zero fun h3 => ?_
        rw [h3] at h2
        omega
theorem hb_pspos {w : Nat → Int} {c : Nat} : ∀ n, 0 < hb_ps w c n → ∃ i, i < n ∧ 0 < w i ∧ 0 < hb_d c i
  | 0, h => by simp [hb_ps] at h
  | n + 1, h => by
    simp only [hb_ps] at h
    by_cases h1 : 0 < hb_ps w c n
    · obtain ⟨i, hi, h2⟩ := hb_pspos n h1
      exact ⟨i, by omega, h2⟩
    · have h2 : 0 < (hb_d c n : Int) * w n := by omega
      refine ⟨n, by omega, ?_, ?_⟩
      · refine Int.not_le.mp fun h3 => ?_
        have := Int.mul_nonneg (Int.natCast_nonneg (hb_d c n)) (Int.neg_nonneg_of_nonpos h3)
        rw [Int.mul_neg] at this
        omega
      · refine Nat.pos_of_ne_zero fun h3 => ?_
        rw [h3] at h2
        omega
/-- a part of a least balance that isn't yet all of it can be given one unit more on the lighter side -/
theorem hb_step {w : Nat → Int} {b r : Nat} (hb : hb_M w b) (hr : r < 16807) (h0 : 0 < r) (hp : hb_part r b) (hne : r ≠ b) :
    hb_s w r ≠ 0 ∧ ∃ i, i < 5 ∧ ((0 < hb_s w r ∧ w i < 0) ∨ (hb_s w r < 0 ∧ 0 < w i)) ∧ hb_d r i < hb_d b i := by
  have hn : hb_s w r ≠ 0 := fun h => hne (hb_Mm hb h0 hr hp h)
  refine ⟨hn, ?_⟩
  have e := hb_ssub (w := w) hr (hb_Mlt hb) hp
  have e2 := hb_Ms hb
  have e3 := hb_dsub hr (hb_Mlt hb) hp
  by_cases h : 0 < hb_s w r
  · have h2 : hb_s w (b - r) < 0 := by omega
    obtain ⟨i, hi, h3, h4⟩ := hb_psneg 5 h2
    rw [e3 i hi] at h4
    exact ⟨i, hi, Or.inl ⟨h, h3⟩, by omega⟩
  · have h2 : 0 < hb_s w (b - r) := by omega
    obtain ⟨i, hi, h3, h4⟩ := hb_pspos 5 h2
    rw [e3 i hi] at h4
    exact ⟨i, hi, Or.inr ⟨by omega, h3⟩, by omega⟩
/-! never more than 343 of them -/
theorem hb_ch1 {x x' y y' : Nat} {p q : Int} (hp : 0 < p) (hq : q < 0) (h : (x : Int) * p + (y : Int) * q = (x' : Int) * p + (y' : Int) * q) (hx : x < x') (hy : y' < y) : False := by
  obtain ⟨u, rfl⟩ : ∃ u, x' = x + u + 1 := ⟨x' - x - 1, by omega⟩
  obtain ⟨v, rfl⟩ : ∃ v, y = y' + v + 1 := ⟨y - y' - 1, by omega⟩
  have h1 := Int.mul_nonneg (Int.natCast_nonneg u) (Int.le_of_lt hp)
  have h2 := Int.mul_nonneg (Int.natCast_nonneg v) (Int.neg_nonneg_of_nonpos (Int.le_of_lt hq))
  rw [Int.mul_neg] at h2
  rw [Int.natCast_add, Int.natCast_add, Int.natCast_add, Int.natCast_add, Int.add_mul, Int.add_mul, Int.add_mul, Int.add_mul] at h
  omega
theorem hb_ch {x x' y y' : Nat} {p q : Int} (hp : 0 < p) (hq : q < 0) (h : (x : Int) * p + (y : Int) * q = (x' : Int) * p + (y' : Int) * q) : (x ≤ x' ∧ y ≤ y') ∨ (x' ≤ x ∧ y' ≤ y) := by
  rcases Nat.lt_or_ge x x' with h1 | h1
  · rcases Nat.lt_or_ge y' y with h2 | h2
    · exact (hb_ch1 hp hq h h1 h2).elim
    · exact Or.inl ⟨by omega, h2⟩
  · rcases Nat.lt_or_ge y y' with h2 | h2
    · rcases Nat.lt_or_ge x' x with h3 | h3
      · exact (hb_ch1 hp hq h.symm h3 h2).elim
      · exact Or.inl ⟨h3, by omega⟩
    · exact Or.inr ⟨h1, h2⟩
theorem hb_two {w : Nat → Int} {c c' : Nat} (hs : hb_s w c = hb_s w c') : ∀ p, p < 5 → ∀ q, q < 5 → p ≠ q → (∀ i, i < 5 → i ≠ p → i ≠ q → hb_d c i = hb_d c' i) →
    (hb_d c p : Int) * w p + (hb_d c q : Int) * w q = (hb_d c' p : Int) * w p + (hb_d c' q : Int) * w q := by
  simp only [hb_s, hb_ps] at hs
  refine hb_5 ?_ ?_ ?_ ?_ ?_
  · refine hb_5 ?_ ?_ ?_ ?_ ?_
    · intro h; exact (h rfl).elim
    · intro _ h; rw [h 2 (by decide) (by decide) (by decide), h 3 (by decide) (by decide) (by decide), h 4 (by decide) (by decide) (by decide)] at hs; omega
    · intro _ h; rw [h 1 (by decide) (by decide) (by decide), h 3 (by decide) (by decide) (by decide), h 4 (by decide) (by decide) (by decide)] at hs; omega
    · intro _ h; rw [h 1 (by decide) (by decide) (by decide), h 2 (by decide) (by decide) (by decide), h 4 (by decide) (by decide) (by decide)] at hs; omega
    · intro _ h; rw [h 1 (by decide) (by decide) (by decide), h 2 (by decide) (by decide) (by decide), h 3 (by decide) (by decide) (by decide)] at hs; omega
  · refine hb_5 ?_ ?_ ?_ ?_ ?_
    · intro _ h; rw [h 2 (by decide) (by decide) (by decide), h 3 (by decide) (by decide) (by decide), h 4 (by decide) (by decide) (by decide)] at hs; omega
    · intro h; exact (h rfl).elim
    · intro _ h; rw [h 0 (by decide) (by decide) (by decide), h 3 (by decide) (by decide) (by decide), h 4 (by decide) (by decide) (by decide)] at hs; omega
    · intro _ h; rw [h 0 (by decide) (by decide) (by decide), h 2 (by decide) (by decide) (by decide), h 4 (by decide) (by decide) (by decide)] at hs; omega
    · intro _ h; rw [h 0 (by decide) (by decide) (by decide), h 2 (by decide) (by decide) (by decide), h 3 (by decide) (by decide) (by decide)] at hs; omega
  · refine hb_5 ?_ ?_ ?_ ?_ ?_
    · intro _ h; rw [h 1 (by decide) (by decide) (by decide), h 3 (by decide) (by decide) (by decide), h 4 (by decide) (by decide) (by decide)] at hs; omega
    · intro _ h; rw [h 0 (by decide) (by decide) (by decide), h 3 (by decide) (by decide) (by decide), h 4 (by decide) (by decide) (by decide)] at hs; omega
    · intro h; exact (h rfl).elim
    · intro _ h; rw [h 0 (by decide) (by decide) (by decide), h 1 (by decide) (by decide) (by decide), h 4 (by decide) (by decide) (by decide)] at hs; omega
    · intro _ h; rw [h 0 (by decide) (by decide) (by decide), h 1 (by decide) (by decide) (by decide), h 3 (by decide) (by decide) (by decide)] at hs; omega
  · refine hb_5 ?_ ?_ ?_ ?_ ?_
    · intro _ h; rw [h 1 (by decide) (by decide) (by decide), h 2 (by decide) (by decide) (by decide), h 4 (by decide) (by decide) (by decide)] at hs; omega
    · intro _ h; rw [h 0 (by decide) (by decide) (by decide), h 2 (by decide) (by decide) (by decide), h 4 (by decide) (by decide) (by decide)] at hs; omega
    · intro _ h; rw [h 0 (by decide) (by decide) (by decide), h 1 (by decide) (by decide) (by decide), h 4 (by decide) (by decide) (by decide)] at hs; omega
    · intro h; exact (h rfl).elim
    · intro _ h; rw [h 0 (by decide) (by decide) (by decide), h 1 (by decide) (by decide) (by decide), h 2 (by decide) (by decide) (by decide)] at hs; omega
  · refine hb_5 ?_ ?_ ?_ ?_ ?_
    · intro _ h; rw [h 1 (by decide) (by decide) (by decide), h 2 (by decide) (by decide) (by decide), h 3 (by decide) (by decide) (by decide)] at hs; omega
    · intro _ h; rw [h 0 (by decide) (by decide) (by decide), h 2 (by decide) (by decide) (by decide), h 3 (by decide) (by decide) (by decide)] at hs; omega
    · intro _ h; rw [h 0 (by decide) (by decide) (by decide), h 1 (by decide) (by decide) (by decide), h 3 (by decide) (by decide) (by decide)] at hs; omega
    · intro _ h; rw [h 0 (by decide) (by decide) (by decide), h 1 (by decide) (by decide) (by decide), h 2 (by decide) (by decide) (by decide)] at hs; omega
    · intro h; exact (h rfl).elim
def hb_oth (p q j : Nat) : Nat := ([0, 1, 2, 3, 4].filter (fun i => i != p && i != q)).getD j 0
theorem hb_thr' : ∀ p q i : Fin 5, p.val = q.val ∨ i.val = p.val ∨ i.val = q.val ∨ i.val = hb_oth p q 0 ∨ i.val = hb_oth p q 1 ∨ i.val = hb_oth p q 2 := by decide +kernel
theorem hb_three {p q : Nat} (hp : p < 5) (hq : q < 5) (hne : p ≠ q) {i : Nat} (hi : i < 5) (h1 : i ≠ p) (h2 : i ≠ q) : i = hb_oth p q 0 ∨ i = hb_oth p q 1 ∨ i = hb_oth p q 2 := by
  rcases hb_thr' ⟨p, hp⟩ ⟨q, hq⟩ ⟨i, hi⟩ with h | h | h | h
  · exact (hne h).elim
  · exact (h1 h).elim
  · exact (h2 h).elim
  · exact h
theorem hb_pq {w : Nat → Int} {c c' p q r s t : Nat} (hc : hb_M w c) (hc' : hb_M w c') (hp : p < 5) (hq : q < 5) (hpq : p ≠ q) (wp : 0 < w p) (wq : w q < 0)
    (h : ∀ i, i < 5 → i ≠ p → i ≠ q → i = r ∨ i = s ∨ i = t) (hk : 49 * hb_d c r + 7 * hb_d c s + hb_d c t = 49 * hb_d c' r + 7 * hb_d c' s + hb_d c' t) : c = c' := by
  have a1 := hb_d7 c r
  have a2 := hb_d7 c s
  have a3 := hb_d7 c t
  have b1 := hb_d7 c' r
  have b2 := hb_d7 c' s
  have b3 := hb_d7 c' t
  have er : hb_d c r = hb_d c' r := by omega
  have es : hb_d c s = hb_d c' s := by omega
  have et : hb_d c t = hb_d c' t := by omega
  have hi : ∀ i, i < 5 → i ≠ p → i ≠ q → hb_d c i = hb_d c' i := by
    intro i h5 i1 i2
    rcases h i h5 i1 i2 with rfl | rfl | rfl
    · exact er
    · exact es
    · exact et
  have e := hb_two ((hb_Ms hc).trans (hb_Ms hc').symm) p hp q hq hpq hi
  have hb1 : ∀ {a b : Nat}, (∀ i, i < 5 → i ≠ p → i ≠ q → hb_d a i = hb_d b i) → hb_d a p ≤ hb_d b p → hb_d a q ≤ hb_d b q → hb_part a b := by
    intro a b h1 h2 h3 i h5
    by_cases i1 : i = p
    · rw [i1]; exact h2
    · by_cases i2 : i = q
      · rw [i2]; exact h3
      · exact Nat.le_of_eq (h1 i h5 i1 i2)
  rcases hb_ch wp wq e with ⟨h1, h2⟩ | ⟨h1, h2⟩
  · exact hb_Manti hc hc' (hb1 hi h1 h2)
  · exact (hb_Manti hc' hc (hb1 (fun i i5 i1 i2 => (hi i i5 i1 i2).symm) h1 h2)).symm
theorem hb_len {L K : List Nat} {f : Nat → Nat} (hL : L.Nodup) (hf : ∀ a, a ∈ L → ∀ b, b ∈ L → f a = f b → a = b) (hK : ∀ a, a ∈ L → f a ∈ K) : L.length ≤ K.length := by
  have h1 : (L.map f).Nodup := by
    refine List.pairwise_map.mpr ?_
    exact List.Pairwise.imp_of_mem (fun {a b} ha hb hne he => hne (hf a ha b hb he)) hL
  have h2 : L.map f ⊆ K := by
    intro x hx
    obtain ⟨a, ha, rfl⟩ := List.mem_map.mp hx
    exact hK a ha
  have h3 := List.Nodup.length_le_of_subset h1 h2
  rw [List.length_map] at h3
  exact h3
theorem hb_psz1 {w : Nat → Int} (hw : ∀ i, i < 5 → 0 ≤ w i) {c : Nat} : ∀ n, n ≤ 5 → 0 ≤ hb_ps w c n ∧ (hb_ps w c n = 0 → ∀ i, i < n → 0 < hb_d c i → w i = 0)
  | 0, _ => ⟨by simp [hb_ps], fun _ i hi => by omega⟩
  | n + 1, h => by
    have e := hb_psz1 hw (c := c) n (by omega)
    have m := Int.mul_nonneg (Int.natCast_nonneg (hb_d c n)) (hw n (by omega))
    simp only [hb_ps]
    refine ⟨by omega, fun h0 i hi hd => ?_⟩
    by_cases q : i = n
    · subst q
      have h1 : (hb_d c i : Int) * w i = 0 := by omega
      rcases Int.mul_eq_zero.mp h1 with h2 | h2
      · omega
      · exact h2
    · exact e.2 (by omega) i (by omega) hd
theorem hb_psneg' {w : Nat → Int} {c : Nat} : ∀ n, hb_ps (fun i => - w i) c n = - hb_ps w c n
  | 0 => by simp [hb_ps]
  | n + 1 => by
    have e := hb_psneg' (w := w) (c := c) n
    simp only [hb_ps]
    rw [e, Int.mul_neg]
    omega
theorem hb_unit {w : Nat → Int} (hw : (∀ i, i < 5 → 0 ≤ w i) ∨ (∀ i, i < 5 → w i ≤ 0)) {c : Nat} (hc : hb_M w c) : c ∈ [2401, 343, 49, 7, 1] := by
  obtain ⟨i, hi, hd⟩ := hb_someD (hb_Mlt hc) (hb_Mpos hc)
  have hz : w i = 0 := by
    rcases hw with hw | hw
    · exact (hb_psz1 hw (c := c) 5 (by decide)).2 (hb_Ms hc) i hi hd
    · have h := (hb_psz1 (w := fun i => - w i) (fun i hi => by have := hw i hi; omega) (c := c) 5 (by decide)).2 (by rw [hb_psneg']; have := hb_Ms hc; unfold hb_s at this; omega) i hi hd
      have h' : - w i = 0 := h
      omega
  have e : hb_P i = c := hb_Mm hc (hb_P_pos i hi) (hb_P_lt i hi) (hb_Ppart hi hd) (by rw [hb_sP hi]; exact hz)
  rw [← e]
  exact (by decide : ∀ i, i < 5 → hb_P i ∈ [2401, 343, 49, 7, 1]) i hi
theorem hb_343 {w : Nat → Int} {L : List Nat} (hL : L.Nodup) (hM : ∀ c, c ∈ L → hb_M w c) : L.length ≤ 343 := by
  by_cases hp : ∃ p, p < 5 ∧ 0 < w p
  · by_cases hq : ∃ q, q < 5 ∧ w q < 0
    · obtain ⟨p, hp, wp⟩ := hp
      obtain ⟨q, hq, wq⟩ := hq
      have hne : p ≠ q := fun e => by rw [e] at wp; omega
      have h : ∀ i, i < 5 → i ≠ p → i ≠ q → i = hb_oth p q 0 ∨ i = hb_oth p q 1 ∨ i = hb_oth p q 2 := fun i hi h1 h2 => hb_three hp hq hne hi h1 h2
      generalize hb_oth p q 0 = r at h
      generalize hb_oth p q 1 = s at h
      generalize hb_oth p q 2 = t at h
      have h1 := hb_len (K := List.range 343) (f := fun c => 49 * hb_d c r + 7 * hb_d c s + hb_d c t) hL
        (fun a ha b hb he => hb_pq (hM a ha) (hM b hb) hp hq hne wp wq h he)
        (fun a ha => by
          rw [List.mem_range]
          have a1 := hb_d7 a r
          have a2 := hb_d7 a s
          have a3 := hb_d7 a t
          show 49 * hb_d a r + 7 * hb_d a s + hb_d a t < 343
          omega)
      rw [List.length_range] at h1
      exact h1
    · have h1 := List.Nodup.length_le_of_subset hL (fun c hc => hb_unit (Or.inl fun i hi => Int.not_lt.mp fun h => hq ⟨i, hi, h⟩) (hM c hc))
      have h2 : [2401, 343, 49, 7, 1].length = 5 := rfl
      omega
  · have h1 := List.Nodup.length_le_of_subset hL (fun c hc => hb_unit (Or.inr fun i hi => Int.not_lt.mp fun h => hp ⟨i, hi, h⟩) (hM c hc))
    have h2 : [2401, 343, 49, 7, 1].length = 5 := rfl
    omega
/-! the list of them, in rising order -/
noncomputable def hb_L (w : Nat → Int) : List Nat := (List.range 16807).filter (fun c => @decide (hb_M w c) (Classical.propDecidable _))
theorem hb_Lmem {w : Nat → Int} {c : Nat} : c ∈ hb_L w ↔ hb_M w c := by
  unfold hb_L
  rw [List.mem_filter, List.mem_range]
  constructor
  · intro h
    exact @of_decide_eq_true _ (Classical.propDecidable _) h.2
  · intro h
    exact ⟨hb_Mlt h, @decide_eq_true _ (Classical.propDecidable _) h⟩
theorem hb_Lpw (w : Nat → Int) : (hb_L w).Pairwise (· < ·) := List.Pairwise.filter _ List.pairwise_lt_range
theorem hb_Lnd (w : Nat → Int) : (hb_L w).Nodup := (hb_Lpw w).imp fun h => Nat.ne_of_lt h
theorem hb_Ln (w : Nat → Int) : (hb_L w).length ≤ 343 := hb_343 (hb_Lnd w) fun _ h => hb_Lmem.mp h
noncomputable def hb_l (w : Nat → Int) (j : Nat) : Nat := (hb_L w).getD j 0
noncomputable def hb_n (w : Nat → Int) : Nat := (hb_L w).length
theorem hb_lM {w : Nat → Int} {j : Nat} (h : j < hb_n w) : hb_M w (hb_l w j) := by
  unfold hb_l
  rw [← List.getElem_eq_getD (h := h)]
  exact hb_Lmem.mp (List.getElem_mem h)
/-- a rising row that holds just the least balances is the list -/
theorem hb_uniq {w : Nat → Int} {g : Nat → Nat} {n : Nat} (h1 : ∀ i j, i < j → j < n → g i < g j) (h2 : ∀ c, hb_M w c ↔ ∃ j, j < n ∧ g j = c) : n = hb_n w ∧ ∀ j, j < n → g j = hb_l w j := by
  have pw : ((List.range n).map g).Pairwise (· < ·) := by
    rw [List.pairwise_iff_getElem]
    intro i j hi hj hij
    rw [List.getElem_map, List.getElem_map, List.getElem_range, List.getElem_range]
    rw [List.length_map, List.length_range] at hj
    exact h1 i j hij hj
  have e : (List.range n).map g = hb_L w := by
    refine List.Perm.eq_of_pairwise (le := (· < ·)) (fun a b _ _ x y => (Nat.lt_asymm x y).elim) pw (hb_Lpw w) ?_
    refine (List.perm_ext_iff_of_nodup (pw.imp fun h => Nat.ne_of_lt h) (hb_Lnd w)).mpr fun c => ?_
    rw [hb_Lmem, h2, List.mem_map]
    constructor
    · rintro ⟨j, hj, e⟩
      exact ⟨j, List.mem_range.mp hj, e⟩
    · rintro ⟨j, hj, e⟩
      exact ⟨j, List.mem_range.mpr hj, e⟩
  refine ⟨?_, fun j hj => ?_⟩
  · unfold hb_n
    rw [← e, List.length_map, List.length_range]
  · unfold hb_l
    rw [← e]
    simp [List.getD, hj]
theorem hb_343g {w : Nat → Int} {g : Nat → Nat} {n : Nat} (h1 : ∀ j, j < n → hb_M w (g j)) (h2 : ∀ i j, i < n → j < n → g i = g j → i = j) : n ≤ 343 := by
  have h := hb_343 (w := w) (L := (List.range n).map g) (by
    refine List.pairwise_map.mpr ?_
    refine List.Pairwise.imp_of_mem ?_ List.nodup_range
    intro a b ha hb hne he
    exact hne (h2 a b (List.mem_range.mp ha) (List.mem_range.mp hb) he)) (by
    intro c hc
    obtain ⟨j, hj, rfl⟩ := List.mem_map.mp hc
    exact h1 j (List.mem_range.mp hj))
  rw [List.length_map, List.length_range] at h
  exact h
end
section
/-! values over a list of coins, each used as often as one likes; the list's order doesn't count -/
def hb_V {α τ : Type} (sub : α → τ → Option τ) (mu : τ → Nat) (op : Nat → Nat → Nat) (h : Nat → Nat) (z : τ → Nat) : List α → τ → Nat
  | [], c => z c
  | a :: L, c =>
    match sub a c with
    | none => hb_V sub mu op h z L c
    | some e => if _hm : mu e < mu c then op (hb_V sub mu op h z L c) (h (hb_V sub mu op h z (a :: L) e)) else 0
termination_by L c => (L.length, mu c)
decreasing_by
  · exact Prod.Lex.left _ _ (Nat.lt_succ_self _)
  · exact Prod.Lex.left _ _ (Nat.lt_succ_self _)
  · exact Prod.Lex.right _ _hm
section
variable {α τ : Type} {sub : α → τ → Option τ} {mu : τ → Nat} {op : Nat → Nat → Nat} {h : Nat → Nat} {z : τ → Nat}
theorem hb_V0 {c : τ} : hb_V sub mu op h z [] c = z c := by
  rw [hb_V]
theorem hb_Vn {a : α} {L : List α} {c : τ} (hs : sub a c = none) : hb_V sub mu op h z (a :: L) c = hb_V sub mu op h z L c := by
  rw [hb_V, hs]
theorem hb_Vs {a : α} {L : List α} {c e : τ} (hd : ∀ a c e, sub a c = some e → mu e < mu c) (hs : sub a c = some e) :
    hb_V sub mu op h z (a :: L) c = op (hb_V sub mu op h z L c) (h (hb_V sub mu op h z (a :: L) e)) := by
  rw [hb_V, hs]
  exact dif_pos (hd a c e hs)
theorem hb_Vswap (hd : ∀ a c e, sub a c = some e → mu e < mu c) (hc : ∀ x y, op x y = op y x) (ha : ∀ x y t, op (op x y) t = op x (op y t)) (hh : ∀ x y, h (op x y) = op (h x) (h y))
    (hb : ∀ a b c, (sub a c).bind (sub b) = (sub b c).bind (sub a)) (a b : α) (L : List α) :
    ∀ n c, mu c < n → hb_V sub mu op h z (a :: b :: L) c = hb_V sub mu op h z (b :: a :: L) c := by
  intro n
  induction n with
  | zero => intro c hn; omega
  | succ n ih =>
    intro c hn
    have B := hb a b c
    cases ea : sub a c with
    | none =>
      cases eb : sub b c with
      | none => rw [hb_Vn ea, hb_Vn eb, hb_Vn eb, hb_Vn ea]
      | some f =>
        rw [ea, eb] at B
        have B' : sub a f = none := B.symm
        have lf := hd b c f eb
        rw [hb_Vn ea, hb_Vs hd eb, hb_Vs hd eb, hb_Vn ea, ← ih f (by omega), hb_Vn B']
    | some e =>
      have le := hd a c e ea
      cases eb : sub b c with
      | none =>
        rw [ea, eb] at B
        have B' : sub b e = none := B
        rw [hb_Vs hd ea, hb_Vn eb, hb_Vn eb, hb_Vs hd ea, ih e (by omega), hb_Vn B']
      | some f =>
        have lf := hd b c f eb
        rw [ea, eb] at B
        have B' : sub b e = sub a f := B
        rw [hb_Vs hd ea, hb_Vs hd eb, hb_Vs hd eb, hb_Vs hd ea, ih e (by omega), ← ih f (by omega)]
        cases eg : sub b e with
        | none =>
          rw [hb_Vn eg, hb_Vn (B'.symm.trans eg), ha, ha, hc (h _) (h _)]
        | some g =>
          have lg := hd b e g eg
          rw [hb_Vs hd eg, hb_Vs hd (B'.symm.trans eg), ih g (by omega), hh, hh, ha, ha]
          rw [← ha (h (hb_V sub mu op h z (b :: L) f)), ← ha (h (hb_V sub mu op h z (a :: L) e)), hc (h (hb_V sub mu op h z (b :: L) f))]
theorem hb_Vcons (hd : ∀ a c e, sub a c = some e → mu e < mu c) (a : α) {L L' : List α} (hL : ∀ c, hb_V sub mu op h z L c = hb_V sub mu op h z L' c) :
    ∀ n c, mu c < n → hb_V sub mu op h z (a :: L) c = hb_V sub mu op h z (a :: L') c := by
  intro n
  induction n with
  | zero => intro c hn; omega
  | succ n ih =>
    intro c hn
    cases ea : sub a c with
    | none => rw [hb_Vn ea, hb_Vn ea, hL]
    | some e =>
      have le := hd a c e ea
      rw [hb_Vs hd ea, hb_Vs hd ea, hL, ih e (by omega)]
theorem hb_Vperm (hd : ∀ a c e, sub a c = some e → mu e < mu c) (hc : ∀ x y, op x y = op y x) (ha : ∀ x y t, op (op x y) t = op x (op y t)) (hh : ∀ x y, h (op x y) = op (h x) (h y))
    (hb : ∀ a b c, (sub a c).bind (sub b) = (sub b c).bind (sub a)) {L L' : List α} (hp : L.Perm L') : ∀ c, hb_V sub mu op h z L c = hb_V sub mu op h z L' c := by
  induction hp with
  | nil => intro c; rfl
  | cons a _ ih => intro c; exact hb_Vcons hd a ih _ c (Nat.lt_succ_self _)
  | swap a b L => intro c; exact hb_Vswap hd hc ha hh hb b a L _ c (Nat.lt_succ_self _)
  | trans _ _ ih1 ih2 => intro c; rw [ih1, ih2]
end
/-! coins that are codes -/
noncomputable def hb_sub (a c : Nat) : Option Nat := @ite _ (0 < a ∧ a < 16807 ∧ c < 16807 ∧ hb_part a c) (Classical.propDecidable _) (some (c - a)) none
theorem hb_subT {a c : Nat} (h0 : 0 < a) (h1 : a < 16807) (h2 : c < 16807) (h3 : hb_part a c) : hb_sub a c = some (c - a) := if_pos ⟨h0, h1, h2, h3⟩
theorem hb_subN {a c : Nat} (h : ¬ hb_part a c) : hb_sub a c = none := if_neg fun x => h x.2.2.2
theorem hb_subE {a c e : Nat} (h : hb_sub a c = some e) : 0 < a ∧ a < 16807 ∧ c < 16807 ∧ hb_part a c ∧ e = c - a := by
  by_cases x : 0 < a ∧ a < 16807 ∧ c < 16807 ∧ hb_part a c
  · rw [hb_subT x.1 x.2.1 x.2.2.1 x.2.2.2] at h
    exact ⟨x.1, x.2.1, x.2.2.1, x.2.2.2, (Option.some.inj h).symm⟩
  · have : hb_sub a c = none := if_neg x
    rw [this] at h
    cases h
theorem hb_subD (a c e : Nat) (h : hb_sub a c = some e) : id e < id c := by
  obtain ⟨h0, h1, h2, h3, rfl⟩ := hb_subE h
  have := hb_ple h1 h2 h3
  show c - a < c
  omega
theorem hb_sub2 {a b c e f : Nat} (h : hb_sub a c = some e) (h' : hb_sub b e = some f) : ∃ g, hb_sub b c = some g ∧ hb_sub a g = some f := by
  obtain ⟨a0, a1, a2, a3, rfl⟩ := hb_subE h
  obtain ⟨b0, b1, b2, b3, rfl⟩ := hb_subE h'
  have b4 : hb_part b c := hb_ptr b3 (hb_psub a1 a2 a3)
  have l1 := hb_ple b1 a2 b4
  have q : hb_part a (c - b) := by
    intro i hi
    have e1 := hb_dsub a1 a2 a3 i hi
    have e2 := hb_dsub b1 a2 b4 i hi
    have e3 := b3 i hi
    have e4 := a3 i hi
    omega
  refine ⟨c - b, hb_subT b0 b1 a2 b4, ?_⟩
  rw [hb_subT a0 a1 (by omega) q]
  exact congrArg some (by omega)
theorem hb_subC (a b c : Nat) : (hb_sub a c).bind (hb_sub b) = (hb_sub b c).bind (hb_sub a) := by
  have half : ∀ a b f, (hb_sub a c).bind (hb_sub b) = some f → (hb_sub b c).bind (hb_sub a) = some f := by
    intro a b f h
    obtain ⟨e, h1, h2⟩ := Option.bind_eq_some_iff.mp h
    obtain ⟨g, h3, h4⟩ := hb_sub2 h1 h2
    exact Option.bind_eq_some_iff.mpr ⟨g, h3, h4⟩
  cases e1 : (hb_sub a c).bind (hb_sub b) with
  | none =>
    cases e2 : (hb_sub b c).bind (hb_sub a) with
    | none => rfl
    | some g => rw [half b a g e2] at e1; cases e1
  | some f => exact (half a b f e1).symm
/-- how many sums of the list's rows a row is -/
noncomputable def hb_W (L : List Nat) (c : Nat) : Nat := hb_V hb_sub id (· + ·) id (fun c => if c = 0 then 1 else 0) L c
/-- the shortest of them; 1000 if there is none -/
noncomputable def hb_F (L : List Nat) (c : Nat) : Nat := hb_V hb_sub id min (· + 1) (fun c => if c = 0 then 0 else 1000) L c
theorem hb_Wperm {L L' : List Nat} (h : L.Perm L') (c : Nat) : hb_W L c = hb_W L' c :=
  hb_Vperm hb_subD Nat.add_comm Nat.add_assoc (fun _ _ => rfl) hb_subC h c
theorem hb_Fperm {L L' : List Nat} (h : L.Perm L') (c : Nat) : hb_F L c = hb_F L' c :=
  hb_Vperm hb_subD Nat.min_comm Nat.min_assoc (fun x y => by show min x y + 1 = min (x + 1) (y + 1); omega) hb_subC h c
theorem hb_W0 (c : Nat) : hb_W [] c = if c = 0 then 1 else 0 := hb_V0
theorem hb_F0 (c : Nat) : hb_F [] c = if c = 0 then 0 else 1000 := hb_V0
theorem hb_Wn {a c : Nat} {L : List Nat} (h : ¬ hb_part a c) : hb_W (a :: L) c = hb_W L c := hb_Vn (hb_subN h)
theorem hb_Fn {a c : Nat} {L : List Nat} (h : ¬ hb_part a c) : hb_F (a :: L) c = hb_F L c := hb_Vn (hb_subN h)
theorem hb_Ws {a c : Nat} {L : List Nat} (h0 : 0 < a) (h1 : a < 16807) (h2 : c < 16807) (h : hb_part a c) : hb_W (a :: L) c = hb_W L c + hb_W (a :: L) (c - a) :=
  hb_Vs hb_subD (hb_subT h0 h1 h2 h)
theorem hb_Fs {a c : Nat} {L : List Nat} (h0 : 0 < a) (h1 : a < 16807) (h2 : c < 16807) (h : hb_part a c) : hb_F (a :: L) c = min (hb_F L c) (hb_F (a :: L) (c - a) + 1) :=
  hb_Vs hb_subD (hb_subT h0 h1 h2 h)
theorem hb_Wz : ∀ {L : List Nat}, (∀ a, a ∈ L → 0 < a ∧ a < 16807) → hb_W L 0 = 1
  | [], _ => by rw [hb_W0]; rfl
  | a :: L, h => by
    have ha := h a List.mem_cons_self
    rw [hb_Wn fun x => by have := hb_p0 ha.2 x; omega]
    exact hb_Wz fun b hb => h b (List.mem_cons_of_mem a hb)
theorem hb_Fz : ∀ {L : List Nat}, (∀ a, a ∈ L → 0 < a ∧ a < 16807) → hb_F L 0 = 0
  | [], _ => by rw [hb_F0]; rfl
  | a :: L, h => by
    have ha := h a List.mem_cons_self
    rw [hb_Fn fun x => by have := hb_p0 ha.2 x; omega]
    exact hb_Fz fun b hb => h b (List.mem_cons_of_mem a hb)
theorem hb_Fmem {L : List Nat} {a c : Nat} (hm : a ∈ L) (h0 : 0 < a) (h1 : a < 16807) (h2 : c < 16807) (h : hb_part a c) : hb_F L c ≤ hb_F L (c - a) + 1 := by
  have p : L.Perm (a :: L.erase a) := List.perm_cons_erase hm
  rw [hb_Fperm p, hb_Fperm p, hb_Fs h0 h1 h2 h]
  exact Nat.min_le_right _ _
theorem hb_Fle : ∀ {L : List Nat} (c : Nat), hb_F L c ≤ 1000
  | [], c => by rw [hb_F0]; split <;> omega
  | a :: L, c => by
    by_cases h : 0 < a ∧ a < 16807 ∧ c < 16807 ∧ hb_part a c
    · rw [hb_Fs h.1 h.2.1 h.2.2.1 h.2.2.2]
      exact Nat.le_trans (Nat.min_le_left _ _) (hb_Fle c)
    · have e : hb_F (a :: L) c = hb_F L c := hb_Vn (if_neg h)
      rw [e]
      exact hb_Fle c
/-- a balance is a sum of at most so many least balances as it has units -/
theorem hb_Fsz (w : Nat → Int) : ∀ n c, c < n → c < 16807 → hb_s w c = 0 → hb_F (hb_L w) c ≤ hb_z c := by
  intro n
  induction n with
  | zero => intro c h; omega
  | succ n ih =>
    intro c hn hc hs
    by_cases h0 : c = 0
    · subst h0
      rw [hb_Fz fun a ha => ⟨hb_Mpos (hb_Lmem.mp ha), hb_Mlt (hb_Lmem.mp ha)⟩]
      exact Nat.zero_le _
    · obtain ⟨m, hm, hp⟩ := hb_ex' (w := w) (by omega) hc hs
      have m0 := hb_Mpos hm
      have m1 := hb_Mlt hm
      have le := hb_ple m1 hc hp
      have e := hb_ssub (w := w) m1 hc hp
      have hms := hb_Ms hm
      have i1 := ih (c - m) (by omega) (by omega) (by omega)
      have i2 := hb_Fmem (hb_Lmem.mpr hm) m0 m1 hc hp
      have i3 := hb_zlt (a := c - m) (by omega) hc (hb_psub m1 hc hp) (by omega)
      omega
/-! coins that are weights: the number of rows of a size and a sum -/
def hb_sb2 (a : Int) (c : Nat × Int) : Option (Nat × Int) := match c with
  | (0, _) => none
  | (n + 1, s) => some (n, s - a)
theorem hb_sb2D (a : Int) (c e : Nat × Int) (h : hb_sb2 a c = some e) : e.1 < c.1 := by
  obtain ⟨n, s⟩ := c
  cases n with
  | zero => cases h
  | succ n => cases h; exact Nat.lt_succ_self n
theorem hb_sb2C (a b : Int) (c : Nat × Int) : (hb_sb2 a c).bind (hb_sb2 b) = (hb_sb2 b c).bind (hb_sb2 a) := by
  obtain ⟨n, s⟩ := c
  cases n with
  | zero => rfl
  | succ n =>
    cases n with
    | zero => rfl
    | succ n =>
      show some (n, s - a - b) = some (n, s - b - a)
      rw [show s - a - b = s - b - a by omega]
def hb_B (L : List Int) (n : Nat) (s : Int) : Nat := hb_V hb_sb2 Prod.fst (· + ·) id (fun c => if c.1 = 0 ∧ c.2 = 0 then 1 else 0) L (n, s)
theorem hb_Bperm {L L' : List Int} (h : L.Perm L') (n : Nat) (s : Int) : hb_B L n s = hb_B L' n s :=
  hb_Vperm hb_sb2D Nat.add_comm Nat.add_assoc (fun _ _ => rfl) hb_sb2C h (n, s)
theorem hb_B0 (n : Nat) (s : Int) : hb_B [] n s = if n = 0 ∧ s = 0 then 1 else 0 := hb_V0
theorem hb_Bz (a : Int) (L : List Int) (s : Int) : hb_B (a :: L) 0 s = hb_B L 0 s := hb_Vn rfl
theorem hb_Bs (a : Int) (L : List Int) (n : Nat) (s : Int) : hb_B (a :: L) (n + 1) s = hb_B L (n + 1) s + hb_B (a :: L) n (s - a) := hb_Vs hb_sb2D rfl
theorem hb_Bout : ∀ {L : List Int}, (∀ a, a ∈ L → -6 ≤ a ∧ a ≤ 6) → ∀ (n : Nat) (s : Int), (6 * (n : Int) < s ∨ s < -(6 * (n : Int))) → hb_B L n s = 0
  | [], _, n, s, hs => by
    rw [hb_B0, if_neg]
    rintro ⟨rfl, rfl⟩
    omega
  | a :: L, h, n, s, hs => by
    have ha := h a List.mem_cons_self
    have hL := hb_Bout (L := L) (fun b hb => h b (List.mem_cons_of_mem a hb))
    induction n generalizing s with
    | zero => rw [hb_Bz]; exact hL 0 s hs
    | succ n ih =>
      rw [hb_Bs, hL (n + 1) s hs, ih (s - a) (by omega)]
/-- sums of a function -/
def hb_S (f : Nat → Nat) : Nat → Nat
  | 0 => 0
  | n + 1 => hb_S f n + f n
theorem hb_Sc {f g : Nat → Nat} : ∀ {n : Nat}, (∀ i, i < n → f i = g i) → hb_S f n = hb_S g n
  | 0, _ => rfl
  | n + 1, h => by
    have e := hb_Sc (n := n) fun i hi => h i (by omega)
    simp only [hb_S]
    rw [e, h n (by omega)]
theorem hb_Ssh (f : Nat → Nat) : ∀ n, hb_S f (n + 1) = f 0 + hb_S (fun i => f (i + 1)) n
  | 0 => by simp [hb_S]
  | n + 1 => by
    have e := hb_Ssh f n
    rw [hb_S, e]
    simp only [hb_S]
    omega
theorem hb_Bsum (a : Int) (L : List Int) : ∀ (n : Nat) (s : Int), hb_B (a :: L) n s = hb_S (fun x => hb_B L (n - x) (s - (x : Int) * a)) (n + 1)
  | 0, s => by
    rw [hb_Bz]
    simp [hb_S]
  | n + 1, s => by
    rw [hb_Bs, hb_Bsum a L n (s - a), hb_Ssh _ (n + 1)]
    have e : hb_B L (n + 1) s = hb_B L (n + 1 - 0) (s - ((0 : Nat) : Int) * a) := by simp
    rw [← e]
    congr 1
    refine hb_Sc fun i _ => ?_
    show hb_B L (n - i) (s - a - (i : Int) * a) = hb_B L (n + 1 - (i + 1)) (s - ((i + 1 : Nat) : Int) * a)
    rw [Nat.add_sub_add_right, Int.natCast_add, Int.add_mul]
    congr 1
    omega
theorem hb_B1 (a : Int) : ∀ (n : Nat) (s : Int), hb_B [a] n s = if s = (n : Int) * a then 1 else 0
  | 0, s => by
    rw [hb_Bz, hb_B0]
    simp
  | n + 1, s => by
    rw [hb_Bs, hb_B0, hb_B1 a n (s - a), if_neg (by omega), Nat.zero_add, Int.natCast_add, Int.add_mul]
    by_cases h : s - a = (n : Int) * a
    · rw [if_pos h, if_pos (by omega)]
    · rw [if_neg h, if_neg (by omega)]
end
section
/-! the rows that are part of a row, by their number -/
def hb_ug (k : Nat) : Nat → Nat → Nat → Nat → Nat
  | 0, _, c, _ => c
  | m + 1, r, c, t => hb_ug k m (r / (hb_d k m + 1)) (c + r % (hb_d k m + 1) * t) (7 * t)
def hb_un (k x : Nat) : Nat := hb_ug k 5 x 0 1
def hb_b (k i : Nat) : Nat := hb_d k i + 1
def hb_ed (k x : Nat) : Nat → Nat
  | 0 => x / hb_b k 4 / hb_b k 3 / hb_b k 2 / hb_b k 1 % hb_b k 0
  | 1 => x / hb_b k 4 / hb_b k 3 / hb_b k 2 % hb_b k 1
  | 2 => x / hb_b k 4 / hb_b k 3 % hb_b k 2
  | 3 => x / hb_b k 4 % hb_b k 3
  | _ => x % hb_b k 4
theorem hb_bpos (k i : Nat) : 0 < hb_b k i := Nat.succ_pos _
theorem hb_edlt (k x : Nat) : ∀ i, i < 5 → hb_ed k x i < hb_b k i := by
  refine hb_5 ?_ ?_ ?_ ?_ ?_
  · exact Nat.mod_lt _ (hb_bpos k 0)
  · exact Nat.mod_lt _ (hb_bpos k 1)
  · exact Nat.mod_lt _ (hb_bpos k 2)
  · exact Nat.mod_lt _ (hb_bpos k 3)
  · exact Nat.mod_lt _ (hb_bpos k 4)
theorem hb_ed7 (k x : Nat) : ∀ i, i < 5 → hb_ed k x i < 7 := by
  intro i hi
  have h := hb_edlt k x i hi
  have h2 := hb_d7 k i
  unfold hb_b at h
  omega
theorem hb_unc (k x : Nat) : hb_un k x = hb_c (hb_ed k x) := by
  show 0 + hb_ed k x 4 * 1 + hb_ed k x 3 * (7 * 1) + hb_ed k x 2 * (7 * (7 * 1)) + hb_ed k x 1 * (7 * (7 * (7 * 1))) + hb_ed k x 0 * (7 * (7 * (7 * (7 * 1)))) = 2401 * hb_ed k x 0 + 343 * hb_ed k x 1 + 49 * hb_ed k x 2 + 7 * hb_ed k x 3 + hb_ed k x 4
  omega
theorem hb_unlt (k x : Nat) : hb_un k x < 16807 := by
  rw [hb_unc]
  exact hb_clt (hb_ed7 k x)
theorem hb_und (k x : Nat) : ∀ i, i < 5 → hb_d (hb_un k x) i = hb_ed k x i := by
  rw [hb_unc]
  exact hb_dc (hb_ed7 k x)
theorem hb_unp (k x : Nat) : hb_part (hb_un k x) k := by
  intro i hi
  have h := hb_edlt k x i hi
  rw [hb_und k x i hi]
  unfold hb_b at h
  omega
/-- the number of a row among the parts -/
def hb_rk (k c : Nat) : Nat := (((hb_d c 0 * hb_b k 1 + hb_d c 1) * hb_b k 2 + hb_d c 2) * hb_b k 3 + hb_d c 3) * hb_b k 4 + hb_d c 4
def hb_end (k : Nat) : Nat := 1 * hb_b k 0 * hb_b k 1 * hb_b k 2 * hb_b k 3 * hb_b k 4
theorem hb_dm {x b e : Nat} (h : e < b) : (x * b + e) / b = x ∧ (x * b + e) % b = e := by
  constructor
  · rw [Nat.mul_comm, Nat.mul_add_div (by omega), Nat.div_eq_of_lt h, Nat.add_zero]
  · rw [Nat.mul_comm, Nat.mul_add_mod, Nat.mod_eq_of_lt h]
theorem hb_unrk {k c : Nat} (hc : c < 16807) (hp : hb_part c k) : hb_un k (hb_rk k c) = c := by
  have hb : ∀ i, i < 5 → hb_d c i < hb_b k i := fun i hi => Nat.lt_succ_of_le (hp i hi)
  have h4 := hb_dm (x := ((hb_d c 0 * hb_b k 1 + hb_d c 1) * hb_b k 2 + hb_d c 2) * hb_b k 3 + hb_d c 3) (hb 4 (by decide))
  have h3 := hb_dm (x := (hb_d c 0 * hb_b k 1 + hb_d c 1) * hb_b k 2 + hb_d c 2) (hb 3 (by decide))
  have h2 := hb_dm (x := hb_d c 0 * hb_b k 1 + hb_d c 1) (hb 2 (by decide))
  have h1 := hb_dm (x := hb_d c 0) (hb 1 (by decide))
  refine hb_eq (hb_unlt _ _) hc ?_
  intro i hi
  rw [hb_und k _ i hi]
  revert i
  refine hb_5 ?_ ?_ ?_ ?_ ?_
  · show hb_rk k c / hb_b k 4 / hb_b k 3 / hb_b k 2 / hb_b k 1 % hb_b k 0 = hb_d c 0
    unfold hb_rk
    rw [h4.1, h3.1, h2.1, h1.1, Nat.mod_eq_of_lt (hb 0 (by decide))]
  · show hb_rk k c / hb_b k 4 / hb_b k 3 / hb_b k 2 % hb_b k 1 = hb_d c 1
    unfold hb_rk
    rw [h4.1, h3.1, h2.1, h1.2]
  · show hb_rk k c / hb_b k 4 / hb_b k 3 % hb_b k 2 = hb_d c 2
    unfold hb_rk
    rw [h4.1, h3.1, h2.2]
  · show hb_rk k c / hb_b k 4 % hb_b k 3 = hb_d c 3
    unfold hb_rk
    rw [h4.1, h3.2]
  · show hb_rk k c % hb_b k 4 = hb_d c 4
    unfold hb_rk
    rw [h4.2]
theorem hb_rkun {k x : Nat} (hx : x < hb_end k) : hb_rk k (hb_un k x) = x := by
  have d0 := hb_und k x 0 (by decide)
  have d1 := hb_und k x 1 (by decide)
  have d2 := hb_und k x 2 (by decide)
  have d3 := hb_und k x 3 (by decide)
  have d4 := hb_und k x 4 (by decide)
  unfold hb_rk
  rw [d0, d1, d2, d3, d4]
  have t : x / hb_b k 4 / hb_b k 3 / hb_b k 2 / hb_b k 1 < hb_b k 0 := by
    rw [Nat.div_lt_iff_lt_mul (hb_bpos k 1), Nat.div_lt_iff_lt_mul (hb_bpos k 2), Nat.div_lt_iff_lt_mul (hb_bpos k 3), Nat.div_lt_iff_lt_mul (hb_bpos k 4)]
    unfold hb_end at hx
    rw [Nat.one_mul] at hx
    exact hx
  show (((x / hb_b k 4 / hb_b k 3 / hb_b k 2 / hb_b k 1 % hb_b k 0 * hb_b k 1 + x / hb_b k 4 / hb_b k 3 / hb_b k 2 % hb_b k 1) * hb_b k 2 + x / hb_b k 4 / hb_b k 3 % hb_b k 2) * hb_b k 3 + x / hb_b k 4 % hb_b k 3) * hb_b k 4 + x % hb_b k 4 = x
  rw [Nat.mod_eq_of_lt t, Nat.div_add_mod', Nat.div_add_mod', Nat.div_add_mod', Nat.div_add_mod']
theorem hb_hlt {x X e b : Nat} (h : x < X) (h2 : e < b) : x * b + e < X * b := by
  have h3 : (x + 1) * b ≤ X * b := Nat.mul_le_mul_right b h
  rw [Nat.add_mul, Nat.one_mul] at h3
  omega
theorem hb_rklt {k c : Nat} (hp : hb_part c k) : hb_rk k c < hb_end k := by
  have hb : ∀ i, i < 5 → hb_d c i < hb_b k i := fun i hi => Nat.lt_succ_of_le (hp i hi)
  unfold hb_rk hb_end
  rw [Nat.one_mul]
  exact hb_hlt (hb_hlt (hb_hlt (hb_hlt (hb 0 (by decide)) (hb 1 (by decide))) (hb 2 (by decide))) (hb 3 (by decide))) (hb 4 (by decide))
theorem hb_rkz (k c : Nat) : hb_z c ≤ hb_rk k c := by
  have h1 : ∀ x i, x ≤ x * hb_b k i := fun x i => Nat.le_mul_of_pos_right x (hb_bpos k i)
  have a1 := h1 (hb_d c 0) 1
  have a2 := h1 (hb_d c 0 * hb_b k 1 + hb_d c 1) 2
  have a3 := h1 ((hb_d c 0 * hb_b k 1 + hb_d c 1) * hb_b k 2 + hb_d c 2) 3
  have a4 := h1 (((hb_d c 0 * hb_b k 1 + hb_d c 1) * hb_b k 2 + hb_d c 2) * hb_b k 3 + hb_d c 3) 4
  rw [hb_z5]
  unfold hb_rk
  generalize (((hb_d c 0 * hb_b k 1 + hb_d c 1) * hb_b k 2 + hb_d c 2) * hb_b k 3 + hb_d c 3) * hb_b k 4 = A at *
  generalize ((hb_d c 0 * hb_b k 1 + hb_d c 1) * hb_b k 2 + hb_d c 2) * hb_b k 3 = B at *
  generalize (hb_d c 0 * hb_b k 1 + hb_d c 1) * hb_b k 2 = C at *
  generalize hb_d c 0 * hb_b k 1 = D at *
  omega
theorem hb_rkadd {k a b c : Nat} (h : ∀ i, i < 5 → hb_d c i = hb_d a i + hb_d b i) : hb_rk k c = hb_rk k a + hb_rk k b := by
  unfold hb_rk
  rw [h 0 (by decide), h 1 (by decide), h 2 (by decide), h 3 (by decide), h 4 (by decide)]
  simp only [Nat.add_mul]
  omega
theorem hb_rksub {k a c : Nat} (h0 : 0 < a) (ha : a < 16807) (hc : c < 16807) (hp : hb_part a c) : hb_rk k (c - a) < hb_rk k c := by
  have h1 := hb_rkadd (k := k) (hb_dsum ha hc hp)
  have h2 := hb_rkz k a
  have h3 : hb_z a ≠ 0 := fun h => by have := hb_z0 ha h; omega
  omega
theorem hb_endle {k : Nat} : hb_end k ≤ 16807 := by
  have hb : ∀ i, hb_b k i ≤ 7 := fun i => hb_d7 k i
  unfold hb_end
  exact Nat.le_trans (Nat.mul_le_mul (Nat.mul_le_mul (Nat.mul_le_mul (Nat.mul_le_mul (Nat.mul_le_mul (Nat.le_refl 1) (hb 0)) (hb 1)) (hb 2)) (hb 3)) (hb 4)) (by decide)
end
section
/-! ints of any sign -/
def hb_i (z : Int) : Int32 := Int32.ofInt z
def hb_w (a : Nat → Int32) (i : Nat) : Int := (a i).toInt
theorem hi_add (a b : Int) : hb_i a + hb_i b = hb_i (a + b) := (Int32.ofInt_add a b).symm
theorem hi_sub (a b : Int) : hb_i a - hb_i b = hb_i (a - b) := (Int32.ofInt_sub a b).symm
theorem hi_mul (a b : Int) : hb_i a * hb_i b = hb_i (a * b) := (Int32.ofInt_mul a b).symm
theorem hi_neg (a : Int) : - hb_i a = hb_i (- a) := (Int32.ofInt_neg a).symm
theorem hi_n (n : Nat) : nI n = hb_i (n : Int) := Int32.ofInt_eq_ofNat.symm
theorem hi_w (a : Nat → Int32) (i : Nat) : a i = hb_i (hb_w a i) := (Int32.ofInt_toInt (a i)).symm
theorem hi_t {z : Int} (h1 : -1073741824 ≤ z) (h2 : z < 1073741824) : (hb_i z).toInt = z := Int32.toInt_ofInt_of_le (by omega) (by omega)
theorem hi_eq {a b : Int} (a1 : -1073741824 ≤ a) (a2 : a < 1073741824) (b1 : -1073741824 ≤ b) (b2 : b < 1073741824) : hb_i a = hb_i b ↔ a = b := by
  rw [← Int32.toInt_inj, hi_t a1 a2, hi_t b1 b2]
theorem hi_le {a b : Int} (a1 : -1073741824 ≤ a) (a2 : a < 1073741824) (b1 : -1073741824 ≤ b) (b2 : b < 1073741824) : hb_i a ≤ hb_i b ↔ a ≤ b := by
  rw [Int32.le_iff_toInt_le, hi_t a1 a2, hi_t b1 b2]
theorem hi_lt {a b : Int} (a1 : -1073741824 ≤ a) (a2 : a < 1073741824) (b1 : -1073741824 ≤ b) (b2 : b < 1073741824) : hb_i a < hb_i b ↔ a < b := by
  rw [Int32.lt_iff_toInt_lt, hi_t a1 a2, hi_t b1 b2]
theorem hi_nat {z : Int} {n : Nat} (h : z = (n : Int)) : hb_i z = nI n := by rw [h, hi_n]
/-- the weights' bounds; the powers -/
def hb_Wb (a : Nat → Int32) : Prop := ∀ i, i < 5 → -6 ≤ hb_w a i ∧ hb_w a i ≤ 6
def hb_Pw (a : Nat → Int32) : Prop := ∀ i, i < 5 → a i = nI (hb_P i)
/-- one branch of three, by ints -/
theorem hi_ceq {x y : Int32} {A B : Prop} (a b : Int) (f : a = b → A) (g : a ≠ b → B) (hx : x = hb_i a) (hy : y = hb_i b) (a1 : -1073741824 ≤ a) (a2 : a < 1073741824) (b1 : -1073741824 ≤ b) (b2 : b < 1073741824) : (x = y → A) ∧ (¬ x = y → B) := by
  subst hx hy
  rw [hi_eq a1 a2 b1 b2]
  exact ⟨f, g⟩
theorem hi_cle {x y : Int32} {A B : Prop} (a b : Int) (f : a ≤ b → A) (g : b < a → B) (hx : x = hb_i a) (hy : y = hb_i b) (a1 : -1073741824 ≤ a) (a2 : a < 1073741824) (b1 : -1073741824 ≤ b) (b2 : b < 1073741824) : (x ≤ y → A) ∧ (¬ x ≤ y → B) := by
  subst hx hy
  rw [hi_le a1 a2 b1 b2]
  exact ⟨f, fun z => g (by omega)⟩
theorem hi_clt {x y : Int32} {A B : Prop} (a b : Int) (f : a < b → A) (g : b ≤ a → B) (hx : x = hb_i a) (hy : y = hb_i b) (a1 : -1073741824 ≤ a) (a2 : a < 1073741824) (b1 : -1073741824 ≤ b) (b2 : b < 1073741824) : (x < y → A) ∧ (¬ x < y → B) := by
  subst hx hy
  rw [hi_lt a1 a2 b1 b2]
  exact ⟨f, fun z => g (by omega)⟩
end
section
/-! the component's small methods -/
theorem hb_dleI (a c i : Nat) : nI (hb_d a i) ≤ nI (hb_d c i) ↔ hb_d a i ≤ hb_d c i := nI_leI (by have := hb_d7 a i; omega) (by have := hb_d7 c i; omega)
/-- a list of codes in an array -/
def hb_Ls (N : Nat) (f : Int32) (a : Nat → Int32) (n : Nat) (g : Nat → Nat) : Prop := f = nI n ∧ n ≤ N ∧ ∀ j, j < n → a j = nI (g j) ∧ g j < 16807
section
variable {f_count : Int32} {f_current : Int32} {a_weights : Nat → Int32} {a_now : Nat → Int32} {a_next : Nat → Int32} {a_list : Nat → Int32} {a_powers : Nat → Int32} {a_table : Nat → Int32} {a_picked : Nat → Int32} {a_rest : Nat → Int32}
variable {post : Int32 → Prop}
theorem hx_digit (hP : hb_Pw a_powers) {c i : Nat} (hc : c < 1073741824) (hi : i < 5) (h : post (nI (hb_d c i))) : wpX_digit post (f_count, f_current, a_weights, a_now, a_next, a_list, a_powers, a_table, a_picked, a_rest) (nI c) (nI i) := by
  have p0 := hb_P_pos i hi
  have p1 := hb_P_lt i hi
  have e : a_powers (nI i).toNatClampNeg = nI (hb_P i) := by rw [nI_clamp (by omega)]; exact hP i hi
  have q : nI c / nI (hb_P i) - nI c / nI (hb_P i) / 7 * 7 = nI (hb_d c i) := by
    rw [pk_div (by omega) p0 (by omega)]
    exact pk_rem (d := 7) (Nat.lt_of_le_of_lt (Nat.div_le_self _ _) (by omega)) (by decide) (by decide)
  exact And.intro (vp_in_nI hi (by decide)) (nm_r e (br_f (nI_nle p0 (by omega)) ⟨nI_ne0 p0 (by omega), by decide, by rw [q]; exact h⟩))
theorem hx_sum_l (hP : hb_Pw a_powers) {c : Nat} (hc : c < 1073741824) (h : post (hb_i (hb_s (hb_w a_weights) c))) : ∀ k i, i + k = 5 → wX_sumOf_4 post (nI c) f_count f_current a_weights a_now a_next a_list a_powers a_table a_picked a_rest (k + 1) (hb_i (hb_ps (hb_w a_weights) c i)) (nI i) := by
  intro k
  induction k with
  | zero =>
    intro i hi
    obtain rfl : i = 5 := by omega
    exact br_t (nI_le (a := 5) (b := 5) (by decide) (by decide)) h
  | succ k ih =>
    intro i hi
    have e : hb_i (hb_ps (hb_w a_weights) c i) + nI (hb_d c i) * a_weights (nI i).toNatClampNeg = hb_i (hb_ps (hb_w a_weights) c (i + 1)) := by
      rw [nI_clamp (by omega), hi_w a_weights i, hi_n, hi_mul, hi_add]
      rfl
    exact br_f (nI_ge (a := i) (b := 5) (by omega) (by decide)) (hx_digit hP hc (by omega) ⟨vp_in_nI (by omega) (by decide), nm_r e (nm_r (nI_1 i) (ih (i + 1) (by omega)))⟩)
theorem hx_sum (hP : hb_Pw a_powers) {c : Nat} (hc : c < 1073741824) (h : post (hb_i (hb_s (hb_w a_weights) c))) : wpX_sumOf post (f_count, f_current, a_weights, a_now, a_next, a_list, a_powers, a_table, a_picked, a_rest) (nI c) :=
  Exists.intro 6 (hx_sum_l hP hc h 5 0 rfl)
/-- whether a row's sum is nothing -/
theorem hx_bal (hP : hb_Pw a_powers) (hW : hb_Wb a_weights) {c : Nat} (hc : c < 1073741824) {A B : Prop} (h1 : hb_s (hb_w a_weights) c = 0 → A) (h0 : hb_s (hb_w a_weights) c ≠ 0 → B) : wpX_sumOf (fun r => (r = 0 → A) ∧ (¬ r = 0 → B)) (f_count, f_current, a_weights, a_now, a_next, a_list, a_powers, a_table, a_picked, a_rest) (nI c) := by
  have b := hb_sb hW c
  exact hx_sum hP hc (hi_ceq _ 0 h1 h0 rfl rfl (by omega) (by omega) (by omega) (by omega))
theorem hx_part_l (hP : hb_Pw a_powers) {a c : Nat} (ha : a < 1073741824) (hc : c < 1073741824) (h1 : hb_part a c → post 1) (h0 : ¬ hb_part a c → post 0) : ∀ k i, i + k = 5 → (∀ j, j < i → hb_d a j ≤ hb_d c j) → wX_isPart_2 post (nI a) (nI c) f_count f_current a_weights a_now a_next a_list a_powers a_table a_picked a_rest (k + 1) (nI i) := by
  intro k
  induction k with
  | zero =>
    intro i hi hj
    obtain rfl : i = 5 := by omega
    exact br_t (nI_le (a := 5) (b := 5) (by decide) (by decide)) (h1 hj)
  | succ k ih =>
    intro i hi hj
    refine br_f (nI_ge (a := i) (b := 5) (by omega) (by decide)) (hx_digit hP ha (by omega) (hx_digit hP hc (by omega) ?_))
    by_cases q : hb_d a i ≤ hb_d c i
    · refine br_t ((hb_dleI a c i).mpr q) (nm_r (nI_1 i) (ih (i + 1) (by omega) ?_))
      intro j h
      by_cases e : j = i
      · rw [e]; exact q
      · exact hj j (by omega)
    · exact br_f (fun x => q ((hb_dleI a c i).mp x)) (h0 fun x => q (x i (by omega)))
theorem hx_part (hP : hb_Pw a_powers) {a c : Nat} (ha : a < 1073741824) (hc : c < 1073741824) (h1 : hb_part a c → post 1) (h0 : ¬ hb_part a c → post 0) : wpX_isPart post (f_count, f_current, a_weights, a_now, a_next, a_list, a_powers, a_table, a_picked, a_rest) (nI a) (nI c) :=
  Exists.intro 6 (hx_part_l hP ha hc h1 h0 5 0 rfl (fun j h => (Nat.not_lt_zero j h).elim))
theorem hx_has_l (hP : hb_Pw a_powers) {n : Nat} {g : Nat → Nat} (hL : hb_Ls 400 f_count a_list n g) {c : Nat} (hc : c < 1073741824) (h1 : (∃ j, j < n ∧ hb_part (g j) c) → post 1) (h0 : (¬ ∃ j, j < n ∧ hb_part (g j) c) → post 0) :
    ∀ k i, i + k = n → (∀ j, j < i → ¬ hb_part (g j) c) → wX_hasPart_2 post (nI c) f_count f_current a_weights a_now a_next a_list a_powers a_table a_picked a_rest (k + 1) (nI i) := by
  obtain ⟨rfl, hn, hg⟩ := hL
  intro k
  induction k with
  | zero =>
    intro i hi hj
    obtain rfl : i = n := by omega
    exact br_t (nI_le (by omega) (by omega)) (h0 fun ⟨j, h, p⟩ => hj j h p)
  | succ k ih =>
    intro i hi hj
    obtain ⟨e, lt⟩ := hg i (by omega)
    refine br_f (nI_ge (by omega) (by omega)) ⟨vp_in_nI (by omega) (by decide), ?_⟩
    rw [nI_clamp (by omega), e]
    refine hx_part hP (by omega) hc (fun p => br_f (by decide) (h1 ⟨i, by omega, p⟩)) (fun p => br_t rfl (nm_r (nI_1 i) (ih (i + 1) (by omega) ?_)))
    intro j h
    by_cases q : j = i
    · rw [q]; exact p
    · exact hj j (by omega)
theorem hx_has (hP : hb_Pw a_powers) {n : Nat} {g : Nat → Nat} (hL : hb_Ls 400 f_count a_list n g) {c : Nat} (hc : c < 1073741824) (h1 : (∃ j, j < n ∧ hb_part (g j) c) → post 1) (h0 : (¬ ∃ j, j < n ∧ hb_part (g j) c) → post 0) :
    wpX_hasPart post (f_count, f_current, a_weights, a_now, a_next, a_list, a_powers, a_table, a_picked, a_rest) (nI c) :=
  Exists.intro (n + 1) (hx_has_l hP hL hc h1 h0 n 0 (Nat.zero_add n) (fun j h => (Nat.not_lt_zero j h).elim))
theorem hx_place_l {n : Nat} {g : Nat → Nat} (hL : hb_Ls 400 f_count a_list n g) {c : Nat} (hc : c < 1073741824) (h1 : ∀ j, j < n → g j = c → post (nI j)) (h0 : (∀ j, j < n → g j ≠ c) → post (-1)) :
    ∀ k i, i + k = n → (∀ j, j < i → g j ≠ c) → wX_place_2 post (nI c) f_count f_current a_weights a_now a_next a_list a_powers a_table a_picked a_rest (k + 1) (nI i) := by
  obtain ⟨rfl, hn, hg⟩ := hL
  intro k
  induction k with
  | zero =>
    intro i hi hj
    obtain rfl : i = n := by omega
    exact br_t (nI_le (by omega) (by omega)) (h0 hj)
  | succ k ih =>
    intro i hi hj
    obtain ⟨e, lt⟩ := hg i (by omega)
    refine br_f (nI_ge (by omega) (by omega)) ⟨vp_in_nI (by omega) (by decide), ?_⟩
    rw [nI_clamp (by omega), e, nI_eq (by omega) (by omega)]
    refine ⟨fun q => h1 i (by omega) q, fun q => nm_r (nI_1 i) (ih (i + 1) (by omega) ?_)⟩
    intro j h
    by_cases q' : j = i
    · rw [q']; exact q
    · exact hj j (by omega)
theorem hx_place {n : Nat} {g : Nat → Nat} (hL : hb_Ls 400 f_count a_list n g) {c : Nat} (hc : c < 1073741824) (h1 : ∀ j, j < n → g j = c → post (nI j)) (h0 : (∀ j, j < n → g j ≠ c) → post (-1)) :
    wpX_place post (f_count, f_current, a_weights, a_now, a_next, a_list, a_powers, a_table, a_picked, a_rest) (nI c) :=
  Exists.intro (n + 1) (hx_place_l hL hc h1 h0 n 0 (Nat.zero_add n) (fun j h => (Nat.not_lt_zero j h).elim))
theorem hx_size_l (hP : hb_Pw a_powers) {c : Nat} (hc : c < 1073741824) (h : post (nI (hb_z c))) : ∀ k i, i + k = 5 → wX_sizeOf_4 post (nI c) f_count f_current a_weights a_now a_next a_list a_powers a_table a_picked a_rest (k + 1) (nI (hb_zs c i)) (nI i) := by
  intro k
  induction k with
  | zero =>
    intro i hi
    obtain rfl : i = 5 := by omega
    exact br_t (nI_le (a := 5) (b := 5) (by decide) (by decide)) h
  | succ k ih =>
    intro i hi
    exact br_f (nI_ge (a := i) (b := 5) (by omega) (by decide)) (hx_digit hP hc (by omega) (nm_r (nI_add _ _) (nm_r (nI_1 i) (ih (i + 1) (by omega)))))
theorem hx_size (hP : hb_Pw a_powers) {c : Nat} (hc : c < 1073741824) (h : post (nI (hb_z c))) : wpX_sizeOf post (f_count, f_current, a_weights, a_now, a_next, a_list, a_powers, a_table, a_picked, a_rest) (nI c) :=
  Exists.intro 6 (hx_size_l hP hc h 5 0 rfl)
end
end
section
/-! the reference's small methods -/
theorem hy_ne {a b : Nat} (h : a ≠ b) (ha : a < 100) (hb : b < 100) : ¬ nI a = nI b := fun e => h ((nI_eq (by omega) (by omega)).mp e)
def hb_pe (k : Nat) : Nat → Nat
  | 0 => 1
  | i + 1 => hb_pe k i * hb_b k i
section
variable {f_ready : Int32} {f_count : Int32} {f_balances : Int32} {a_weights : Nat → Int32} {a_codes : Nat → Int32} {a_many : Nat → Int32} {a_few : Nat → Int32}
variable {post : Int32 → Prop}
theorem hy_digit {c i : Nat} (hc : c < 16807) (hi : i < 5) (h : post (nI (hb_d c i))) : wpY_digit post (f_ready, f_count, f_balances, a_weights, a_codes, a_many, a_few) (nI c) (nI i) := by
  have key : ∀ i, i < 5 → post (nI (hb_d c i)) → wpY_digit post (f_ready, f_count, f_balances, a_weights, a_codes, a_many, a_few) (nI c) (nI i) := by
    refine hb_5 ?_ ?_ ?_ ?_ ?_
    · intro h
      have q : nI c / 2401 = nI (hb_d c 0) := (pk_div (d := 2401) (by omega) (by decide) (by decide)).trans (congrArg nI (by rw [hb_d0]; omega))
      exact br_t rfl ⟨by decide, by rw [q]; exact h⟩
    · intro h
      have q : nI c / 343 = nI (c / 343) := pk_div (d := 343) (by omega) (by decide) (by decide)
      have q' : nI (c / 343) - nI (c / 343) / 7 * 7 = nI (hb_d c 1) := pk_rem (d := 7) (by omega) (by decide) (by decide)
      exact br_f (hy_ne (a := 1) (b := 0) (by decide) (by decide) (by decide)) (br_t rfl ⟨by decide, by decide, by rw [q, q']; exact h⟩)
    · intro h
      have q : nI c / 49 = nI (c / 49) := pk_div (d := 49) (by omega) (by decide) (by decide)
      have q' : nI (c / 49) - nI (c / 49) / 7 * 7 = nI (hb_d c 2) := pk_rem (d := 7) (by omega) (by decide) (by decide)
      exact br_f (hy_ne (a := 2) (b := 0) (by decide) (by decide) (by decide)) (br_f (hy_ne (a := 2) (b := 1) (by decide) (by decide) (by decide)) (br_t rfl ⟨by decide, by decide, by rw [q, q']; exact h⟩))
    · intro h
      have q : nI c / 7 = nI (c / 7) := pk_div (d := 7) (by omega) (by decide) (by decide)
      have q' : nI (c / 7) - nI (c / 7) / 7 * 7 = nI (hb_d c 3) := pk_rem (d := 7) (by omega) (by decide) (by decide)
      exact br_f (hy_ne (a := 3) (b := 0) (by decide) (by decide) (by decide)) (br_f (hy_ne (a := 3) (b := 1) (by decide) (by decide) (by decide)) (br_f (hy_ne (a := 3) (b := 2) (by decide) (by decide) (by decide)) (br_t rfl ⟨by decide, by decide, by rw [q, q']; exact h⟩)))
    · intro h
      have q' : nI c - nI c / 7 * 7 = nI (hb_d c 4) := (pk_rem (d := 7) (by omega) (by decide) (by decide)).trans (congrArg nI (hb_d4 c).symm)
      exact br_f (hy_ne (a := 4) (b := 0) (by decide) (by decide) (by decide)) (br_f (hy_ne (a := 4) (b := 1) (by decide) (by decide) (by decide)) (br_f (hy_ne (a := 4) (b := 2) (by decide) (by decide) (by decide)) (br_f (hy_ne (a := 4) (b := 3) (by decide) (by decide) (by decide)) ⟨by decide, by rw [q']; exact h⟩)))
  exact key i hi h
theorem hy_bal_l (hW : hb_Wb a_weights) {c : Nat} (hc : c < 16807) (h1 : hb_s (hb_w a_weights) c = 0 → post 1) (h0 : hb_s (hb_w a_weights) c ≠ 0 → post 0) : ∀ k i, i + k = 5 → wY_balanced_4 post (nI c) f_ready f_count f_balances a_weights a_codes a_many a_few (k + 1) (hb_i (hb_ps (hb_w a_weights) c i)) (nI i) := by
  intro k
  induction k with
  | zero =>
    intro i hi
    obtain rfl : i = 5 := by omega
    have b := hb_sb hW c
    exact br_t (nI_le (a := 5) (b := 5) (by decide) (by decide)) (hi_ceq (hb_s (hb_w a_weights) c) 0 h1 h0 rfl rfl (by omega) (by omega) (by omega) (by omega))
  | succ k ih =>
    intro i hi
    have e : hb_i (hb_ps (hb_w a_weights) c i) + nI (hb_d c i) * a_weights (nI i).toNatClampNeg = hb_i (hb_ps (hb_w a_weights) c (i + 1)) := by
      rw [nI_clamp (by omega), hi_w a_weights i, hi_n, hi_mul, hi_add]
      rfl
    exact br_f (nI_ge (a := i) (b := 5) (by omega) (by decide)) (hy_digit hc (by omega) ⟨vp_in_nI (by omega) (by decide), nm_r e (nm_r (nI_1 i) (ih (i + 1) (by omega)))⟩)
theorem hy_bal (hW : hb_Wb a_weights) {c : Nat} (hc : c < 16807) (h1 : hb_s (hb_w a_weights) c = 0 → post 1) (h0 : hb_s (hb_w a_weights) c ≠ 0 → post 0) : wpY_balanced post (f_ready, f_count, f_balances, a_weights, a_codes, a_many, a_few) (nI c) :=
  Exists.intro 6 (hy_bal_l hW hc h1 h0 5 0 rfl)
theorem hy_part_l {a c : Nat} (ha : a < 16807) (hc : c < 16807) (h1 : hb_part a c → post 1) (h0 : ¬ hb_part a c → post 0) : ∀ k i, i + k = 5 → (∀ j, j < i → hb_d a j ≤ hb_d c j) → wY_part_2 post (nI a) (nI c) f_ready f_count f_balances a_weights a_codes a_many a_few (k + 1) (nI i) := by
  intro k
  induction k with
  | zero =>
    intro i hi hj
    obtain rfl : i = 5 := by omega
    exact br_t (nI_le (a := 5) (b := 5) (by decide) (by decide)) (h1 hj)
  | succ k ih =>
    intro i hi hj
    refine br_f (nI_ge (a := i) (b := 5) (by omega) (by decide)) (hy_digit ha (by omega) (hy_digit hc (by omega) ?_))
    by_cases q : hb_d a i ≤ hb_d c i
    · refine br_t ((hb_dleI a c i).mpr q) (nm_r (nI_1 i) (ih (i + 1) (by omega) ?_))
      intro j h
      by_cases e : j = i
      · rw [e]; exact q
      · exact hj j (by omega)
    · exact br_f (fun x => q ((hb_dleI a c i).mp x)) (h0 fun x => q (x i (by omega)))
theorem hy_part {a c : Nat} (ha : a < 16807) (hc : c < 16807) (h1 : hb_part a c → post 1) (h0 : ¬ hb_part a c → post 0) : wpY_part post (f_ready, f_count, f_balances, a_weights, a_codes, a_many, a_few) (nI a) (nI c) :=
  Exists.intro 6 (hy_part_l ha hc h1 h0 5 0 rfl (fun j h => (Nat.not_lt_zero j h).elim))
theorem hy_alone_l {n : Nat} {g : Nat → Nat} (hL : hb_Ls 2000 f_count a_codes n g) {c : Nat} (hc : c < 16807) (h0 : (∃ j, j < n ∧ hb_part (g j) c) → post 0) (h1 : (¬ ∃ j, j < n ∧ hb_part (g j) c) → post 1) :
    ∀ k i, i + k = n → (∀ j, j < i → ¬ hb_part (g j) c) → wY_alone_2 post (nI c) f_ready f_count f_balances a_weights a_codes a_many a_few (k + 1) (nI i) := by
  obtain ⟨rfl, hn, hg⟩ := hL
  intro k
  induction k with
  | zero =>
    intro i hi hj
    obtain rfl : i = n := by omega
    exact br_t (nI_le (by omega) (by omega)) (h1 fun ⟨j, h, p⟩ => hj j h p)
  | succ k ih =>
    intro i hi hj
    obtain ⟨e, lt⟩ := hg i (by omega)
    refine br_f (nI_ge (by omega) (by omega)) (br_f (nI_ge (a := i) (b := 2000) (by omega) (by decide)) ⟨vp_in_nI (by omega) (by decide), ?_⟩)
    rw [nI_clamp (by omega), e]
    refine hy_part lt hc (fun p => br_f (by decide) (h0 ⟨i, by omega, p⟩)) (fun p => br_t rfl (nm_r (nI_1 i) (ih (i + 1) (by omega) ?_)))
    intro j h
    by_cases q : j = i
    · rw [q]; exact p
    · exact hj j (by omega)
theorem hy_alone {n : Nat} {g : Nat → Nat} (hL : hb_Ls 2000 f_count a_codes n g) {c : Nat} (hc : c < 16807) (h0 : (∃ j, j < n ∧ hb_part (g j) c) → post 0) (h1 : (¬ ∃ j, j < n ∧ hb_part (g j) c) → post 1) :
    wpY_alone post (f_ready, f_count, f_balances, a_weights, a_codes, a_many, a_few) (nI c) :=
  Exists.intro (n + 1) (hy_alone_l hL hc h0 h1 n 0 (Nat.zero_add n) (fun j h => (Nat.not_lt_zero j h).elim))
theorem hy_parts_l {k : Nat} (hk : k < 16807) (h : post (nI (hb_end k))) : ∀ m i, i + m = 5 → wY_parts_4 post (nI k) f_ready f_count f_balances a_weights a_codes a_many a_few (m + 1) (nI (hb_pe k i)) (nI i) := by
  intro m
  induction m with
  | zero =>
    intro i hi
    obtain rfl : i = 5 := by omega
    exact br_t (nI_le (a := 5) (b := 5) (by decide) (by decide)) h
  | succ m ih =>
    intro i hi
    have e : nI (hb_pe k i) * (nI (hb_d k i) + 1) = nI (hb_pe k (i + 1)) := by
      rw [nI_1, pk_mul]
      rfl
    exact br_f (nI_ge (a := i) (b := 5) (by omega) (by decide)) (hy_digit hk (by omega) (nm_r e (nm_r (nI_1 i) (ih (i + 1) (by omega)))))
theorem hy_parts {k : Nat} (hk : k < 16807) (h : post (nI (hb_end k))) : wpY_parts post (f_ready, f_count, f_balances, a_weights, a_codes, a_many, a_few) (nI k) :=
  Exists.intro 6 (hy_parts_l hk h 5 0 rfl)
theorem hy_under_l {k : Nat} (hk : k < 16807) : ∀ m, m ≤ 5 → ∀ r c t, r < 1073741824 → post (nI (hb_ug k m r c t)) → wY_under_11 post (nI k) f_ready f_count f_balances a_weights a_codes a_many a_few (m + 1) (nI r) (nI c) (nI t) (nI m + (-1)) := by
  intro m
  induction m with
  | zero =>
    intro _ r c t _ h
    exact br_t (by decide) h
  | succ m ih =>
    intro hm r c t hr h
    rw [pk_m1]
    have b7 := hb_d7 k m
    have lt : r / (hb_d k m + 1) < 1073741824 := Nat.lt_of_le_of_lt (Nat.div_le_self _ _) hr
    have e1 : nI c + (nI r - nI r / nI (hb_d k m + 1) * nI (hb_d k m + 1)) * nI t = nI (c + r % (hb_d k m + 1) * t) := by
      rw [pk_rem (by omega) (by omega) (by omega), pk_mul, nI_add]
    have e2 : nI r / nI (hb_d k m + 1) = nI (r / (hb_d k m + 1)) := pk_div (by omega) (by omega) (by omega)
    refine br_f (nI_pos (by omega)) (hy_digit hk (by omega) (nm_r (nI_1 _) (br_t (nI_le (a := 1) (by omega) (by omega)) ?_)))
    exact And.intro (nI_ne0 (by omega) (by omega)) (nm_r e1 ⟨nI_ne0 (by omega) (by omega), nm_r e2 (nm_r (pk_mul 7 t) (nm_e (ih (by omega) _ _ _ lt h)))⟩)
theorem hy_under {k x : Nat} (hk : k < 16807) (hx : x < 1073741824) (h : post (nI (hb_un k x))) : wpY_under post (f_ready, f_count, f_balances, a_weights, a_codes, a_many, a_few) (nI k) (nI x) := by
  have q := hy_under_l (post := post) (f_ready := f_ready) (f_count := f_count) (f_balances := f_balances) (a_weights := a_weights) (a_codes := a_codes) (a_many := a_many) (a_few := a_few) hk 5 (by decide) x 0 1 hx h
  rw [show nI 5 + (-1) = (4 : Int32) from by decide] at q
  exact Exists.intro 6 q
end
end
section
/-! the reference finds the least balances -/
def hb_put (g : Nat → Nat) (n c : Nat) (j : Nat) : Nat := if j = n then c else g j
theorem hb_puts (g : Nat → Nat) (n c : Nat) : hb_put g n c n = c := if_pos rfl
theorem hb_putn {g : Nat → Nat} {n c j : Nat} (h : j ≠ n) : hb_put g n c j = g j := if_neg h
theorem hb_Lsadd {N : Nat} {f : Int32} {a : Nat → Int32} {n : Nat} {g : Nat → Nat} (hL : hb_Ls N f a n g) (hn : n < N) (hN : N < 1073741824) {c : Nat} (hc : c < 16807) : hb_Ls N (f + 1) (upd a f.toNatClampNeg (nI c)) (n + 1) (hb_put g n c) := by
  obtain ⟨rfl, _, hg⟩ := hL
  refine ⟨nI_1 n, hn, fun j hj => ?_⟩
  rw [nI_clamp (by omega)]
  by_cases q : j = n
  · rw [q, pk_us, hb_puts]; exact ⟨rfl, hc⟩
  · rw [pk_un q, hb_putn q]; exact hg j (by omega)
theorem hb_Lseq {N : Nat} {f : Int32} {a : Nat → Int32} {n n' : Nat} {g g' : Nat → Nat} (hL : hb_Ls N f a n g) (hn : n = n') (hg : ∀ j, j < n → g j = g' j) : hb_Ls N f a n' g' := by
  subst hn
  exact ⟨hL.1, hL.2.1, fun j hj => by rw [← hg j hj]; exact hL.2.2 j hj⟩
def hb_YI (w : Nat → Int) (c n : Nat) (g : Nat → Nat) : Prop := (∀ i j, i < j → j < n → g i < g j) ∧ ∀ x, (hb_M w x ∧ x < c) ↔ ∃ j, j < n ∧ g j = x
theorem hb_YIn {w : Nat → Int} {c n : Nat} {g : Nat → Nat} (h : hb_YI w c n g) : n ≤ 343 := by
  refine hb_343g (w := w) (g := g) (fun j hj => ((h.2 (g j)).mpr ⟨j, hj, rfl⟩).1) ?_
  intro i j hi hj e
  rcases Nat.lt_trichotomy i j with q | q | q
  · have := h.1 i j q hj; omega
  · exact q
  · have := h.1 j i q hi; omega
theorem hb_YI0 (w : Nat → Int) : hb_YI w 1 0 (fun _ => 0) :=
  ⟨fun _ j _ hj => (Nat.not_lt_zero j hj).elim, fun x => ⟨fun h => by have := hb_Mpos h.1; omega, fun ⟨j, hj, _⟩ => (Nat.not_lt_zero j hj).elim⟩⟩
theorem hb_YIs {w : Nat → Int} {c n : Nat} {g : Nat → Nat} (h : hb_YI w c n g) (hM : ¬ hb_M w c) : hb_YI w (c + 1) n g := by
  refine ⟨h.1, fun x => ?_⟩
  rw [← h.2 x]
  constructor
  · rintro ⟨h1, h2⟩
    refine ⟨h1, ?_⟩
    have : x ≠ c := fun e => hM (e ▸ h1)
    omega
  · rintro ⟨h1, h2⟩
    exact ⟨h1, by omega⟩
theorem hb_YIa {w : Nat → Int} {c n : Nat} {g : Nat → Nat} (h : hb_YI w c n g) (hM : hb_M w c) : hb_YI w (c + 1) (n + 1) (hb_put g n c) := by
  have lt : ∀ j, j < n → g j < c := fun j hj => ((h.2 (g j)).mpr ⟨j, hj, rfl⟩).2
  refine ⟨fun i j hij hj => ?_, fun x => ?_⟩
  · rw [hb_putn (show i ≠ n by omega)]
    by_cases q : j = n
    · rw [q, hb_puts]; exact lt i (by omega)
    · rw [hb_putn q]; exact h.1 i j hij (by omega)
  · constructor
    · rintro ⟨h1, h2⟩
      by_cases q : x = c
      · exact ⟨n, by omega, by rw [hb_puts, q]⟩
      · obtain ⟨j, hj, e⟩ := (h.2 x).mp ⟨h1, by omega⟩
        exact ⟨j, by omega, by rw [hb_putn (by omega)]; exact e⟩
    · rintro ⟨j, hj, e⟩
      by_cases q : j = n
      · rw [q, hb_puts] at e
        rw [← e]
        exact ⟨hM, by omega⟩
      · rw [hb_putn q] at e
        have := (h.2 x).mpr ⟨j, by omega, e⟩
        exact ⟨this.1, by omega⟩
theorem hb_YIe {w : Nat → Int} {n : Nat} {g : Nat → Nat} (h : hb_YI w 16807 n g) : n = hb_n w ∧ ∀ j, j < n → g j = hb_l w j := by
  refine hb_uniq h.1 fun c => ?_
  rw [← h.2 c]
  exact ⟨fun x => ⟨x, hb_Mlt x⟩, fun x => x.1⟩
/-- the balances are counted -/
def hb_bf (w : Nat → Int) (c : Nat) : Nat := if hb_s w c = 0 then 1 else 0
def hb_bc (w : Nat → Int) : Nat := hb_S (hb_bf w) 16807
def hb_RY (w : Nat → Int) (f_count f_balances : Int32) (a_codes : Nat → Int32) : Prop := hb_Ls 2000 f_count a_codes (hb_n w) (hb_l w) ∧ f_balances = nI (hb_bc w)
section
variable {f_ready : Int32} {a_weights a_many a_few : Nat → Int32} {post : SY → Prop}
theorem hy_work_l (hW : hb_Wb a_weights) (hpost : ∀ f_count f_balances a_codes, hb_RY (hb_w a_weights) f_count f_balances a_codes → post (1, f_count, f_balances, a_weights, a_codes, a_many, a_few)) :
    ∀ k c, c + k = 16807 → 1 ≤ c → ∀ (n : Nat) (g : Nat → Nat) (f_count f_balances : Int32) (a_codes : Nat → Int32), hb_Ls 2000 f_count a_codes n g → f_balances = nI (hb_S (hb_bf (hb_w a_weights)) c) → hb_YI (hb_w a_weights) c n g →
      wY_work_19 post f_ready (k + 1) (nI c) f_count f_balances a_weights a_codes a_many a_few := by
  intro k
  induction k with
  | zero =>
    intro c hc _ n g f_count f_balances a_codes hL hb hI
    obtain rfl : c = 16807 := by omega
    have e := hb_YIe hI
    exact br_t (nI_le (a := 16807) (b := 16807) (by decide) (by decide)) (hpost _ _ _ ⟨hb_Lseq hL e.1 e.2, hb⟩)
  | succ k ih =>
    intro c hc h1 n g f_count f_balances a_codes hL hb hI
    have hn := hb_YIn hI
    refine br_f (nI_ge (a := c) (b := 16807) (by omega) (by decide)) (hy_bal hW (by omega) (fun hs => br_f (by decide) ?_) (fun hs => br_t rfl ?_))
    · have eb : f_balances + 1 = nI (hb_S (hb_bf (hb_w a_weights)) (c + 1)) := by
        rw [hb, nI_1]
        exact congrArg nI (by simp only [hb_S, hb_bf]; rw [if_pos hs])
      refine nm_r eb (br_f (by decide) (br_f ?_ (hy_alone hL (by omega) (fun hj => br_t rfl ?_) (fun hj => br_f (by decide) ⟨?_, nm_e (nm_e (nm_r (nI_1 c) ?_))⟩))))
      · rw [hL.1]; exact nI_ge (a := n) (b := 2000) (by omega) (by decide)
      · refine nm_r (nI_1 c) (ih (c + 1) (by omega) (by omega) n g _ _ _ hL rfl (hb_YIs hI ?_))
        intro hM
        obtain ⟨j, hj, hp⟩ := hj
        have q := (hI.2 (g j)).mpr ⟨j, hj, rfl⟩
        have := hb_Manti q.1 hM hp
        omega
      · rw [hL.1]; exact vp_in_nI (by omega) (by decide)
      · refine ih (c + 1) (by omega) (by omega) (n + 1) (hb_put g n c) _ _ _ (hb_Lsadd hL (by omega) (by decide) (by omega)) rfl (hb_YIa hI ?_)
        refine hb_Mof (by omega) (by omega) hs fun m hm hp => ?_
        have le := hb_ple (hb_Mlt hm) (by omega) hp
        refine Classical.byContradiction fun ne => hj ?_
        obtain ⟨j, q1, q2⟩ := (hI.2 m).mp ⟨hm, by omega⟩
        exact ⟨j, q1, by rw [q2]; exact hp⟩
    · have eb : f_balances = nI (hb_S (hb_bf (hb_w a_weights)) (c + 1)) := by
        rw [hb]
        exact congrArg nI (by simp only [hb_S, hb_bf]; rw [if_neg hs, Nat.add_zero])
      exact br_t rfl (nm_r (nI_1 c) (ih (c + 1) (by omega) (by omega) n g _ _ _ hL eb (hb_YIs hI fun hM => hs (hb_Ms hM))))
end
section
variable {f_ready : Int32} {f_count : Int32} {f_balances : Int32} {a_weights : Nat → Int32} {a_codes : Nat → Int32} {a_many : Nat → Int32} {a_few : Nat → Int32}
variable {post : SY → Prop}
theorem hy_work (hW : hb_Wb a_weights) (hR : f_ready ≠ 0 → hb_RY (hb_w a_weights) f_count f_balances a_codes)
    (h : ∀ f_ready f_count f_balances a_codes, hb_RY (hb_w a_weights) f_count f_balances a_codes → post (f_ready, f_count, f_balances, a_weights, a_codes, a_many, a_few)) : wpY_work post (f_ready, f_count, f_balances, a_weights, a_codes, a_many, a_few) := by
  refine br_c (fun _ => ?_) (fun hr => h _ _ _ _ (hR hr))
  refine Exists.intro 16807 (hy_work_l hW (fun c b k q => h 1 c b k q) 16806 1 rfl (by decide) 0 (fun _ => 0) 0 1 a_codes ⟨rfl, by decide, fun j hj => (Nat.not_lt_zero j hj).elim⟩ ?_ (hb_YI0 _))
  have e : hb_S (hb_bf (hb_w a_weights)) 1 = 1 := by simp only [hb_S, hb_bf]; rw [if_pos (hb_s0 _)]
  rw [e]
  rfl
end
end
section
/-! the reference's table of sums of least balances -/
noncomputable def hb_rev (w : Nat → Int) : Nat → List Nat
  | 0 => []
  | j + 1 => hb_l w j :: hb_rev w j
theorem hb_reve (w : Nat → Int) : ∀ j, hb_rev w j = ((List.range j).map (hb_l w)).reverse
  | 0 => rfl
  | j + 1 => by
    rw [hb_rev, hb_reve w j, List.range_succ, List.map_append, List.reverse_append]
    rfl
theorem hb_Lmap (w : Nat → Int) : (List.range (hb_n w)).map (hb_l w) = hb_L w := by
  refine List.ext_getElem ?_ ?_
  · rw [List.length_map, List.length_range]; rfl
  · intro i h1 h2
    rw [List.getElem_map, List.getElem_range]
    exact (List.getElem_eq_getD (h := h2) 0).symm
theorem hb_revp (w : Nat → Int) : (hb_rev w (hb_n w)).Perm (hb_L w) := by
  rw [hb_reve, hb_Lmap]
  exact List.reverse_perm _
/-- both tables hold what they should at a row -/
def hb_T (L : List Nat) (m f : Nat → Int32) (c : Nat) : Prop := m c = nI (hb_W L c) ∧ f c = nI (hb_F L c)
def hb_TA (k : Nat) (L : List Nat) (m f : Nat → Int32) : Prop := ∀ c, c < 16807 → hb_part c k → hb_T L m f c
/-- rows with a number below x hold the new value, the others the old one -/
def hb_TX (k : Nat) (L L' : List Nat) (x : Nat) (m f : Nat → Int32) : Prop := ∀ c, c < 16807 → hb_part c k → (hb_rk k c < x → hb_T L' m f c) ∧ (x ≤ hb_rk k c → hb_T L m f c)
theorem hb_Tu {L : List Nat} {m f : Nat → Int32} {c c0 : Nat} {v v' : Int32} (h : hb_T L m f c) (hne : c ≠ c0) : hb_T L (upd m c0 v) (upd f c0 v') c := by
  unfold hb_T
  rw [pk_un hne, pk_un hne]
  exact h
theorem hb_uid {f : Nat → Int32} {c : Nat} : upd f c (f c) = f := by
  funext j
  by_cases q : j = c
  · rw [q, pk_us]
  · rw [pk_un q]
/-- the row with the number x is written -/
theorem hb_TXs {k x : Nat} {L L' : List Nat} {m f : Nat → Int32} (hx : x < hb_end k) (h : hb_TX k L L' x m f) {v v' : Int32} (hv : v = nI (hb_W L' (hb_un k x))) (hv' : v' = nI (hb_F L' (hb_un k x))) :
    hb_TX k L L' (x + 1) (upd m (hb_un k x) v) (upd f (hb_un k x) v') := by
  intro c hc hp
  by_cases q : c = hb_un k x
  · have e : hb_rk k c = x := by rw [q]; exact hb_rkun hx
    refine ⟨fun _ => ?_, fun h => by omega⟩
    unfold hb_T
    rw [q, pk_us, pk_us]
    exact ⟨hv, hv'⟩
  · have ne : hb_rk k c ≠ x := fun e => q (by rw [← e]; exact (hb_unrk hc hp).symm)
    have := h c hc hp
    exact ⟨fun h1 => hb_Tu (this.1 (by omega)) q, fun h1 => hb_Tu (this.2 (by omega)) q⟩
theorem hb_TXk {k x : Nat} {L L' : List Nat} {m f : Nat → Int32} (hx : x < hb_end k) (h : hb_TX k L L' x m f) (hv : hb_T L' m f (hb_un k x)) : hb_TX k L L' (x + 1) m f := by
  have q := hb_TXs hx h hv.1 hv.2
  rw [hb_uid, hb_uid] at q
  exact q
section
variable {f_ready f_count f_balances : Int32} {a_weights a_codes : Nat → Int32} {post : SY → Prop}
theorem hy_spread_l {k a : Nat} {L : List Nat} (hk : k < 16807) (h0 : 0 < a) (ha : a < 16807) (hpost : ∀ a_many a_few, hb_TA k (a :: L) a_many a_few → post (f_ready, f_count, f_balances, a_weights, a_codes, a_many, a_few)) :
    ∀ d x, x + d = hb_end k → ∀ a_many a_few, hb_TX k L (a :: L) x a_many a_few → wY_spread_3 post (nI a) (nI k) (nI (hb_end k)) f_ready f_count f_balances (d + 1) (nI x) a_weights a_codes a_many a_few := by
  have he := hb_endle (k := k)
  intro d
  induction d with
  | zero =>
    intro x hx a_many a_few hT
    obtain rfl : x = hb_end k := by omega
    exact br_t (nI_le (by omega) (by omega)) (hpost _ _ fun c hc hp => (hT c hc hp).1 (hb_rklt hp))
  | succ d ih =>
    intro x hx a_many a_few hT
    have hxe : x < hb_end k := by omega
    have ul := hb_unlt k x
    have up := hb_unp k x
    have rk := hb_rkun hxe
    have old := (hT _ ul up).2 (by omega)
    refine br_f (nI_ge (by omega) (by omega)) (hy_under hk (by omega) ?_)
    have skip : ¬ hb_part a (hb_un k x) → wY_spread_3 post (nI a) (nI k) (nI (hb_end k)) f_ready f_count f_balances (d + 1) (nI (x + 1)) a_weights a_codes a_many a_few := by
      intro np
      refine ih (x + 1) (by omega) _ _ (hb_TXk hxe hT ?_)
      unfold hb_T
      rw [hb_Wn np, hb_Fn np]
      exact old
    by_cases q : hb_un k x < a
    · refine br_t (nI_lt q (by omega)) (nm_r (nI_1 x) (skip fun p => ?_))
      have := hb_ple ha ul p
      omega
    · refine br_f (nI_nlt (by omega) (by omega)) (hy_part ha ul (fun p => br_f (by decide) ?_) (fun p => br_t rfl (nm_r (nI_1 x) (skip p))))
      have le := hb_ple ha ul p
      have sl : hb_un k x - a < 16807 := by omega
      have new := (hT _ sl (hb_ptr (hb_psub ha ul p) up)).1 (by rw [← rk]; rw [rk]; have := hb_rksub (k := k) h0 ha ul p; omega)
      have c1 : (nI (hb_un k x)).toNatClampNeg = hb_un k x := nI_clamp (by omega)
      have e2 : nI (hb_un k x) - nI a = nI (hb_un k x - a) := pk_sub le
      have c2 : (nI (hb_un k x - a)).toNatClampNeg = hb_un k x - a := nI_clamp (by omega)
      have i1 : vp_in (nI (hb_un k x)) 16807 := vp_in_nI ul (by decide)
      have i2 : vp_in (nI (hb_un k x - a)) 16807 := vp_in_nI sl (by decide)
      have f1 := hb_Fle (L := L) (hb_un k x)
      have f2 := hb_Fle (L := a :: L) (hb_un k x - a)
      have eW := hb_Ws (L := L) h0 ha ul p
      have eF := hb_Fs (L := L) h0 ha ul p
      have m1 : a_many (hb_un k x) + a_many (hb_un k x - a) = nI (hb_W (a :: L) (hb_un k x)) := by
        rw [old.1, new.1, nI_add, eW]
      have m2 : a_few (hb_un k x - a) + 1 = nI (hb_F (a :: L) (hb_un k x - a) + 1) := by
        rw [new.2, nI_1]
      rw [e2, c1, c2]
      refine ⟨i1, i2, i1, nm_e ⟨i2, nm_r m2 ⟨i1, ?_⟩⟩⟩
      rw [old.2, nI_leI (by omega) (by omega)]
      refine ⟨fun q => nm_r (nI_1 x) (ih (x + 1) (by omega) _ _ ?_), fun q => ⟨i1, nm_e (nm_r (nI_1 x) (ih (x + 1) (by omega) _ _ ?_))⟩⟩
      · have z := hb_TXs hxe hT m1 (v' := a_few (hb_un k x)) (by rw [old.2, eF, Nat.min_eq_left q])
        rw [hb_uid (f := a_few)] at z
        exact z
      · exact hb_TXs hxe hT m1 (by rw [eF, Nat.min_eq_right (by omega)])
theorem hy_sums_l {k n : Nat} {w : Nat → Int} (hk : k < 16807) (hn : n = hb_n w) (hL : hb_Ls 2000 f_count a_codes n (hb_l w)) (hpost : ∀ a_many a_few, hb_TA k (hb_rev w n) a_many a_few → post (f_ready, f_count, f_balances, a_weights, a_codes, a_many, a_few)) :
    ∀ d j, j + d = n → ∀ a_many a_few, hb_TA k (hb_rev w j) a_many a_few → wY_sums_65 post (nI k) (nI (hb_end k)) (d + 1) (nI j) f_ready f_count f_balances a_weights a_codes a_many a_few := by
  intro d
  induction d with
  | zero =>
    intro j hj a_many a_few hT
    obtain rfl : j = n := by omega
    have hN := hL.2.1
    exact br_t (by rw [hL.1]; exact nI_le (by omega) (by omega)) (hpost _ _ hT)
  | succ d ih =>
    intro j hj a_many a_few hT
    have hN := hL.2.1
    obtain ⟨e, lt⟩ := hL.2.2 j (by omega)
    have hM := hb_lM (w := w) (j := j) (by omega)
    have i1 : vp_in (nI j) 2000 := vp_in_nI (by omega) (by decide)
    refine br_f (by rw [hL.1]; exact nI_ge (by omega) (by omega)) (br_f (nI_ge (a := j) (b := 2000) (by omega) (by decide)) ⟨i1, ?_⟩)
    rw [nI_clamp (by omega), e]
    refine hy_part lt hk (fun p => br_f (by decide) ⟨i1, ?_⟩) (fun p => br_t rfl (nm_r (nI_1 j) (ih (j + 1) (by omega) _ _ ?_)))
    · refine Exists.intro (hb_end k + 1) (hy_spread_l (L := hb_rev w j) hk (hb_Mpos hM) lt (fun a_many a_few hT' => nm_r (nI_1 j) (ih (j + 1) (by omega) _ _ hT')) (hb_end k) 0 (Nat.zero_add _) _ _ ?_)
      exact fun c hc hp => ⟨fun h => (Nat.not_lt_zero _ h).elim, fun _ => hT c hc hp⟩
    · intro c hc hp
      have np : ¬ hb_part (hb_l w j) c := fun x => p (hb_ptr x hp)
      have := hT c hc hp
      unfold hb_T
      rw [hb_rev, hb_Wn np, hb_Fn np]
      exact this
theorem hy_sums_i {k n : Nat} {w : Nat → Int} (hk : k < 16807) (hn : n = hb_n w) (hL : hb_Ls 2000 f_count a_codes n (hb_l w)) (hpost : ∀ a_many a_few, hb_TA k (hb_rev w n) a_many a_few → post (f_ready, f_count, f_balances, a_weights, a_codes, a_many, a_few)) :
    ∀ d x, x + d = hb_end k → ∀ a_many a_few, (∀ c, c < 16807 → hb_part c k → hb_rk k c < x → hb_T [] a_many a_few c) → wY_sums_8 post (nI k) (nI (hb_end k)) f_ready f_count f_balances (d + 1) (nI x) a_weights a_codes a_many a_few := by
  have he := hb_endle (k := k)
  intro d
  induction d with
  | zero =>
    intro x hx a_many a_few hT
    obtain rfl : x = hb_end k := by omega
    exact br_t (nI_le (by omega) (by omega)) (Exists.intro (n + 1) (hy_sums_l hk hn hL hpost n 0 (Nat.zero_add n) _ _ fun c hc hp => hT c hc hp (hb_rklt hp)))
  | succ d ih =>
    intro x hx a_many a_few hT
    have hxe : x < hb_end k := by omega
    have ul := hb_unlt k x
    have i1 : vp_in (nI (hb_un k x)) 16807 := vp_in_nI ul (by decide)
    have c1 : (nI (hb_un k x)).toNatClampNeg = hb_un k x := nI_clamp (by omega)
    have stp : ∀ v v' : Int32, v = nI (hb_W [] (hb_un k x)) → v' = nI (hb_F [] (hb_un k x)) → ∀ c, c < 16807 → hb_part c k → hb_rk k c < x + 1 → hb_T [] (upd a_many (hb_un k x) v) (upd a_few (hb_un k x) v') c := by
      intro v v' hv hv' c hc hp hr
      by_cases q : c = hb_un k x
      · unfold hb_T
        rw [q, pk_us, pk_us]
        exact ⟨hv, hv'⟩
      · have ne : hb_rk k c ≠ x := fun e => q (by rw [← e]; exact (hb_unrk hc hp).symm)
        exact hb_Tu (hT c hc hp (by omega)) q
    refine br_f (nI_ge (by omega) (by omega)) (hy_under hk (by omega) ?_)
    by_cases q : hb_un k x = 0
    · refine br_t (by rw [q]; rfl) (And.intro i1 ?_)
      rw [c1]
      refine nm_e (br_t (by rw [q]; rfl) ⟨i1, nm_e (nm_r (nI_1 x) (ih (x + 1) (by omega) _ _ (stp _ _ ?_ ?_)))⟩)
      · rw [q, hb_W0]; rfl
      · rw [q, hb_F0]; rfl
    · have nz : ¬ nI (hb_un k x) = 0 := nI_ne0 (by omega) (by omega)
      refine br_f nz (And.intro i1 ?_)
      rw [c1]
      refine nm_e (br_f nz ⟨i1, nm_e (nm_r (nI_1 x) (ih (x + 1) (by omega) _ _ (stp _ _ ?_ ?_)))⟩)
      · rw [hb_W0, if_neg q]; rfl
      · rw [hb_F0, if_neg q]; rfl
end
section
variable {f_ready : Int32} {f_count : Int32} {f_balances : Int32} {a_weights : Nat → Int32} {a_codes : Nat → Int32} {a_many : Nat → Int32} {a_few : Nat → Int32}
variable {post : SY → Prop}
theorem hy_sums {k : Nat} {w : Nat → Int} (hk : k < 16807) (hL : hb_Ls 2000 f_count a_codes (hb_n w) (hb_l w))
    (h : ∀ a_many a_few, a_many k = nI (hb_W (hb_L w) k) → a_few k = nI (hb_F (hb_L w) k) → post (f_ready, f_count, f_balances, a_weights, a_codes, a_many, a_few)) : wpY_sums post (f_ready, f_count, f_balances, a_weights, a_codes, a_many, a_few) (nI k) := by
  refine hy_parts (post := fun r_1 => ∃ n8 : Nat, wY_sums_8 post (nI k) r_1 f_ready f_count f_balances n8 0 a_weights a_codes a_many a_few) hk ?_
  refine Exists.intro (hb_end k + 1) (hy_sums_i hk rfl hL ?_ (hb_end k) 0 (Nat.zero_add _) _ _ fun c _ _ hr => (Nat.not_lt_zero _ hr).elim)
  intro a_many a_few hT
  have q := hT k hk (hb_prf k)
  exact h _ _ (by rw [q.1, hb_Wperm (hb_revp w)]) (by rw [q.2, hb_Fperm (hb_revp w)])
end
end
section
/-! the reference counts the balances of a size -/
theorem hb_mulc {x : Nat} {w : Int} (hx : x ≤ 20) (h1 : -6 ≤ w) (h2 : w ≤ 6) : -120 ≤ (x : Int) * w ∧ (x : Int) * w ≤ 120 := by
  have a := Int.mul_le_mul_of_nonneg_left h2 (Int.natCast_nonneg x)
  have b := Int.mul_le_mul_of_nonneg_left h1 (Int.natCast_nonneg x)
  omega
def hb_f3 (w : Nat → Int) (m : Nat) (t : Int) (x y : Nat) : Nat := if (x : Int) * w 2 + (y : Int) * w 3 + ((m - x - y : Nat) : Int) * w 4 = t then 1 else 0
def hb_g3 (w : Nat → Int) (m : Nat) (t : Int) (x : Nat) : Nat := hb_S (hb_f3 w m t x) (m - x + 1)
theorem hb_B3 (w : Nat → Int) (m : Nat) (t : Int) : hb_S (hb_g3 w m t) (m + 1) = hb_B [w 2, w 3, w 4] m t := by
  rw [hb_Bsum]
  refine hb_Sc fun x hx => ?_
  rw [hb_Bsum]
  refine hb_Sc fun y hy => ?_
  rw [hb_B1]
  unfold hb_f3
  by_cases h : (x : Int) * w 2 + (y : Int) * w 3 + ((m - x - y : Nat) : Int) * w 4 = t
  · rw [if_pos h, if_pos (by omega)]
  · rw [if_neg h, if_neg (by omega)]
def hb_g5 (w : Nat → Int) (n x : Nat) : Nat := hb_S (fun y => hb_B [w 2, w 3, w 4] (n - x - y) (-(x : Int) * w 0 - (y : Int) * w 1)) (n - x + 1)
theorem hb_B5 (w : Nat → Int) (n : Nat) : hb_S (hb_g5 w n) (n + 1) = hb_B [w 0, w 1, w 2, w 3, w 4] n 0 := by
  rw [hb_Bsum]
  refine hb_Sc fun x hx => ?_
  rw [hb_Bsum]
  refine hb_Sc fun y hy => ?_
  show hb_B [w 2, w 3, w 4] (n - x - y) (-(x : Int) * w 0 - (y : Int) * w 1) = hb_B [w 2, w 3, w 4] (n - x - y) (0 - (x : Int) * w 0 - (y : Int) * w 1)
  rw [Int.neg_mul, Int.zero_sub]
section
variable {f_ready : Int32} {f_count : Int32} {f_balances : Int32} {a_weights : Nat → Int32} {a_codes : Nat → Int32} {a_many : Nat → Int32} {a_few : Nat → Int32}
variable {post : Int32 → Prop}
theorem hy_three_i {J : Int32 → Int32 → Prop} (hW : hb_Wb a_weights) {m x c : Nat} {t : Int} (hm : m ≤ 20) (hx : x ≤ m) (ht1 : -1000 ≤ t) (ht2 : t ≤ 1000)
    (hJ : J (nI (c + hb_g3 (hb_w a_weights) m t x)) (nI (x + 1))) :
    ∀ d y, y + d = m - x + 1 → wY_lastThree_14 post J (nI m) (hb_i t) (nI x) f_ready f_count f_balances a_weights a_codes a_many a_few (d + 1) (nI (c + hb_S (hb_f3 (hb_w a_weights) m t x) y)) (nI y) := by
  have w2 := hW 2 (by decide)
  have w3 := hW 3 (by decide)
  have w4 := hW 4 (by decide)
  have s1 : nI m - nI x = nI (m - x) := pk_sub hx
  intro d
  induction d with
  | zero =>
    intro y hy
    obtain rfl : y = m - x + 1 := by omega
    refine br_t ?_ (nm_r (nI_1 x) hJ)
    rw [s1]
    exact nI_lt (by omega) (by omega)
  | succ d ih =>
    intro y hy
    have s2 : nI (m - x) - nI y = nI (m - x - y) := pk_sub (by omega)
    have m1 := hb_mulc (x := x) (by omega) w2.1 w2.2
    have m2 := hb_mulc (x := y) (by omega) w3.1 w3.2
    have m3 := hb_mulc (x := m - x - y) (by omega) w4.1 w4.2
    have e : nI x * a_weights 2 + nI y * a_weights 3 + nI (m - x - y) * a_weights 4 = hb_i ((x : Int) * hb_w a_weights 2 + (y : Int) * hb_w a_weights 3 + ((m - x - y : Nat) : Int) * hb_w a_weights 4) := by
      rw [hi_w a_weights 2, hi_w a_weights 3, hi_w a_weights 4, hi_n, hi_n, hi_n, hi_mul, hi_mul, hi_mul, hi_add, hi_add]
    refine br_f ?_ ?_
    · rw [s1]
      exact nI_nlt (by omega) (by omega)
    · rw [s1, s2, e]
      refine hi_ceq _ t (fun h => nm_r (nI_1 _) (nm_r (nI_1 y) ?_)) (fun h => nm_r (nI_1 y) ?_) rfl rfl (by omega) (by omega) (by omega) (by omega)
      · have q := ih (y + 1) (by omega)
        simp only [hb_S] at q
        rw [show hb_f3 (hb_w a_weights) m t x y = 1 from if_pos h, ← Nat.add_assoc] at q
        exact q
      · have q := ih (y + 1) (by omega)
        simp only [hb_S] at q
        rw [show hb_f3 (hb_w a_weights) m t x y = 0 from if_neg h, Nat.add_zero] at q
        exact q
theorem hy_three_l (hW : hb_Wb a_weights) {m : Nat} {t : Int} (hm : m ≤ 20) (ht1 : -1000 ≤ t) (ht2 : t ≤ 1000) (h : post (nI (hb_B [hb_w a_weights 2, hb_w a_weights 3, hb_w a_weights 4] m t))) :
    ∀ d x, x + d = m + 1 → wY_lastThree_5 post (nI m) (hb_i t) f_ready f_count f_balances a_weights a_codes a_many a_few (d + 1) (nI (hb_S (hb_g3 (hb_w a_weights) m t) x)) (nI x) := by
  intro d
  induction d with
  | zero =>
    intro x hx
    obtain rfl : x = m + 1 := by omega
    refine br_t (nI_lt (by omega) (by omega)) ?_
    rw [hb_B3]
    exact h
  | succ d ih =>
    intro x hx
    exact br_f (nI_nlt (by omega) (by omega)) (Exists.intro (m - x + 1 + 1) (hy_three_i (c := hb_S (hb_g3 (hb_w a_weights) m t) x) hW hm (by omega) ht1 ht2 (ih (x + 1) (by omega)) (m - x + 1) 0 (Nat.zero_add _)))
theorem hy_three (hW : hb_Wb a_weights) {m : Nat} {t : Int} (hm : m ≤ 20) (ht1 : -1000 ≤ t) (ht2 : t ≤ 1000) (h : post (nI (hb_B [hb_w a_weights 2, hb_w a_weights 3, hb_w a_weights 4] m t))) :
    wpY_lastThree post (f_ready, f_count, f_balances, a_weights, a_codes, a_many, a_few) (nI m) (hb_i t) :=
  Exists.intro (m + 2) (hy_three_l hW hm ht1 ht2 h (m + 1) 0 (Nat.zero_add _))
theorem hy_five_i {J : Int32 → Int32 → Prop} (hW : hb_Wb a_weights) {n x c : Nat} (hn : n ≤ 20) (hx : x ≤ n)
    (hJ : J (nI (c + hb_g5 (hb_w a_weights) n x)) (nI (x + 1))) :
    ∀ d y, y + d = n - x + 1 → wY_balances_24 post J (nI n) (nI x) f_ready f_count f_balances a_weights a_codes a_many a_few (d + 1) (nI (c + hb_S (fun y => hb_B [hb_w a_weights 2, hb_w a_weights 3, hb_w a_weights 4] (n - x - y) (-(x : Int) * hb_w a_weights 0 - (y : Int) * hb_w a_weights 1)) y)) (nI y) := by
  have w0 := hW 0 (by decide)
  have w1 := hW 1 (by decide)
  have s1 : nI n - nI x = nI (n - x) := pk_sub hx
  intro d
  induction d with
  | zero =>
    intro y hy
    obtain rfl : y = n - x + 1 := by omega
    refine br_t ?_ (nm_r (nI_1 x) hJ)
    rw [s1]
    exact nI_lt (by omega) (by omega)
  | succ d ih =>
    intro y hy
    have s2 : nI (n - x) - nI y = nI (n - x - y) := pk_sub (by omega)
    have m0 := hb_mulc (x := x) (by omega) w0.1 w0.2
    have m1 := hb_mulc (x := y) (by omega) w1.1 w1.2
    have e : (- nI x) * a_weights 0 - nI y * a_weights 1 = hb_i (-(x : Int) * hb_w a_weights 0 - (y : Int) * hb_w a_weights 1) := by
      rw [hi_w a_weights 0, hi_w a_weights 1, hi_n, hi_n, hi_neg, hi_mul, hi_mul, hi_sub]
    refine br_f ?_ ?_
    · rw [s1]
      exact nI_nlt (by omega) (by omega)
    · rw [s1, s2, e]
      have b1 : -1000 ≤ -(x : Int) * hb_w a_weights 0 - (y : Int) * hb_w a_weights 1 := by rw [Int.neg_mul]; omega
      have b2 : -(x : Int) * hb_w a_weights 0 - (y : Int) * hb_w a_weights 1 ≤ 1000 := by rw [Int.neg_mul]; omega
      refine hy_three hW (by omega) b1 b2 (nm_r (nI_add _ _) (nm_r (nI_1 y) ?_))
      have q := ih (y + 1) (by omega)
      simp only [hb_S] at q
      rw [← Nat.add_assoc] at q
      exact q
theorem hy_five_l (hW : hb_Wb a_weights) {n : Nat} (hn : n ≤ 20) (h : post (nI (hb_B [hb_w a_weights 0, hb_w a_weights 1, hb_w a_weights 2, hb_w a_weights 3, hb_w a_weights 4] n 0))) :
    ∀ d x, x + d = n + 1 → wY_balances_16 post (nI n) f_ready f_count f_balances a_weights a_codes a_many a_few (d + 1) (nI (hb_S (hb_g5 (hb_w a_weights) n) x)) (nI x) := by
  intro d
  induction d with
  | zero =>
    intro x hx
    obtain rfl : x = n + 1 := by omega
    refine br_t (nI_lt (by omega) (by omega)) ?_
    rw [hb_B5]
    exact h
  | succ d ih =>
    intro x hx
    exact br_f (nI_nlt (by omega) (by omega)) (Exists.intro (n - x + 1 + 1) (hy_five_i (c := hb_S (hb_g5 (hb_w a_weights) n) x) hW hn (by omega) (ih (x + 1) (by omega)) (n - x + 1) 0 (Nat.zero_add _)))
theorem hy_balances (hW : hb_Wb a_weights) {n : Nat} (hn : n ≤ 20) (h : post (nI (hb_B [hb_w a_weights 0, hb_w a_weights 1, hb_w a_weights 2, hb_w a_weights 3, hb_w a_weights 4] n 0))) : wpY_balances post (f_ready, f_count, f_balances, a_weights, a_codes, a_many, a_few) (nI n) :=
  br_f (nI_pos (by omega)) (br_t (nI_le (a := n) (b := 20) hn (by decide)) (Exists.intro (n + 2) (hy_five_l hW hn h (n + 1) 0 (Nat.zero_add _))))
end
end
section
/-! the component counts the balances of a size -/
def hb_TB (L : List Int) (tb : Nat → Int32) : Prop := ∀ r t, r ≤ 20 → t ≤ 240 → tb (241 * r + t) = nI (hb_B L r ((t : Int) - 120))
def hb_TI (a : Int) (L : List Int) (q : Nat) (tb : Nat → Int32) : Prop := ∀ r t, r ≤ 20 → t ≤ 240 → (241 * r + t < q → tb (241 * r + t) = nI (hb_B (a :: L) r ((t : Int) - 120))) ∧ (q ≤ 241 * r + t → tb (241 * r + t) = nI (hb_B L r ((t : Int) - 120)))
theorem hb_TI0 {a : Int} {L : List Int} {tb : Nat → Int32} (h : hb_TB L tb) : hb_TI a L 241 tb := by
  intro r t hr ht
  refine ⟨fun q => ?_, fun _ => h r t hr ht⟩
  obtain rfl : r = 0 := by omega
  rw [hb_Bz]
  exact h 0 t hr ht
theorem hb_TIe {a : Int} {L : List Int} {tb : Nat → Int32} (h : hb_TI a L (241 * 21) tb) : hb_TB (a :: L) tb :=
  fun r t hr ht => (h r t hr ht).1 (by omega)
theorem hb_TIs {a : Int} {L : List Int} {N t : Nat} {tb : Nat → Int32} (h : hb_TI a L (241 * N + t) tb) (hN : N ≤ 20) (ht : t ≤ 240) {v : Int32} (hv : v = nI (hb_B (a :: L) N ((t : Int) - 120))) : hb_TI a L (241 * N + (t + 1)) (upd tb (241 * N + t) v) := by
  intro r t' hr ht'
  by_cases q : 241 * r + t' = 241 * N + t
  · obtain rfl : r = N := by omega
    obtain rfl : t' = t := by omega
    rw [pk_us]
    exact ⟨fun _ => hv, fun h => by omega⟩
  · rw [pk_un q]
    have := h r t' hr ht'
    exact ⟨fun h1 => this.1 (by omega), fun h1 => this.2 (by omega)⟩
theorem hb_TIk {a : Int} {L : List Int} {N t : Nat} {tb : Nat → Int32} (h : hb_TI a L (241 * N + t) tb) (hN : N ≤ 20) (ht : t ≤ 240) (hv : tb (241 * N + t) = nI (hb_B (a :: L) N ((t : Int) - 120))) : hb_TI a L (241 * N + (t + 1)) tb := by
  have q := hb_TIs h hN ht hv
  rw [hb_uid] at q
  exact q
def hb_rw (w : Nat → Int) : Nat → List Int
  | 0 => []
  | i + 1 => w i :: hb_rw w i
theorem hb_rwb {w : Nat → Int} (hw : ∀ i, i < 5 → -6 ≤ w i ∧ w i ≤ 6) : ∀ i, i ≤ 5 → ∀ a, a ∈ hb_rw w i → -6 ≤ a ∧ a ≤ 6
  | 0, _, a, h => by simp [hb_rw] at h
  | i + 1, hi, a, h => by
    rw [hb_rw, List.mem_cons] at h
    rcases h with rfl | h
    · exact hw i (by omega)
    · exact hb_rwb hw i (by omega) a h
theorem hb_rw5 (w : Nat → Int) : (hb_rw w 5).Perm [w 0, w 1, w 2, w 3, w 4] := by
  have e : hb_rw w 5 = [w 0, w 1, w 2, w 3, w 4].reverse := rfl
  rw [e]
  exact List.reverse_perm _
section
variable {f_count f_current : Int32} {a_weights a_now a_next a_list a_powers a_picked a_rest : Nat → Int32}
theorem hx_add_l {post : SX → Prop} (hW : hb_Wb a_weights) {i N : Nat} {L : List Int} (hi : i < 5) (h1 : 1 ≤ N) (hN : N ≤ 20) (hLb : ∀ a, a ∈ L → -6 ≤ a ∧ a ≤ 6)
    (hpost : ∀ a_table, hb_TI (hb_w a_weights i) L (241 * (N + 1)) a_table → post (f_count, f_current, a_weights, a_now, a_next, a_list, a_powers, a_table, a_picked, a_rest)) :
    ∀ d t, t + d = 241 → ∀ a_table, hb_TI (hb_w a_weights i) L (241 * N + t) a_table → wX_addUnit_3 post (nI i) (nI N) f_count f_current (d + 1) (hb_i ((t : Int) - 120)) a_weights a_now a_next a_list a_powers a_table a_picked a_rest := by
  have w := hW i hi
  intro d
  induction d with
  | zero =>
    intro t ht a_table hT
    obtain rfl : t = 241 := by omega
    exact br_t (by decide) (hpost _ hT)
  | succ d ih =>
    intro t ht a_table hT
    have e0 : hb_i ((t : Int) - 120) - a_weights (nI i).toNatClampNeg = hb_i ((t : Int) - 120 - hb_w a_weights i) := by
      rw [nI_clamp (by omega), hi_w a_weights i, hi_sub]
    have e1 : hb_i ((t : Int) - 120) + 1 = hb_i (((t + 1 : Nat) : Int) - 120) := by
      rw [show (1 : Int32) = hb_i 1 from rfl, hi_add]
      exact congrArg hb_i (by omega)
    have ex : (241 : Int32) * nI N + 120 + hb_i ((t : Int) - 120) = nI (241 * N + t) := by
      rw [show (241 : Int32) = hb_i 241 from rfl, show (120 : Int32) = hb_i 120 from rfl, hi_n N, hi_mul, hi_add, hi_add]
      exact hi_nat (by omega)
    obtain ⟨M, rfl⟩ : ∃ M, N = M + 1 := ⟨N - 1, by omega⟩
    have hb := hb_Bs (hb_w a_weights i) L M ((t : Int) - 120)
    have old := (hT (M + 1) t (by omega) (by omega)).2 (Nat.le_refl _)
    have out : (6 * (M : Int) < (t : Int) - 120 - hb_w a_weights i ∨ (t : Int) - 120 - hb_w a_weights i < -(6 * (M : Int))) → wX_addUnit_3 post (nI i) (nI (M + 1)) f_count f_current (d + 1) (hb_i (((t + 1 : Nat) : Int) - 120)) a_weights a_now a_next a_list a_powers a_table a_picked a_rest := by
      intro ho
      refine ih (t + 1) (by omega) _ (hb_TIk hT hN (by omega) ?_)
      have all : ∀ a, a ∈ hb_w a_weights i :: L → -6 ≤ a ∧ a ≤ 6 := by
        intro a ha
        rcases List.mem_cons.mp ha with rfl | ha
        · exact w
        · exact hLb a ha
      have z := hb_Bout all _ _ ho
      rw [old, hb]
      exact congrArg nI (by omega)
    refine br_f ?_ ⟨vp_in_nI hi (by decide), nm_r e0 ?_⟩
    · rw [show (120 : Int32) = hb_i 120 from rfl, hi_lt (by omega) (by omega) (by omega) (by omega)]
      omega
    refine hi_clt _ (-120) (fun h => nm_r e1 (out (by omega))) (fun h => ?_) rfl (by decide) (by omega) (by omega) (by omega) (by omega)
    refine hi_clt 120 _ (fun h => nm_r e1 (out (by omega))) (fun h => ?_) rfl rfl (by omega) (by omega) (by omega) (by omega)
    obtain ⟨s, hs⟩ : ∃ s : Nat, (t : Int) - hb_w a_weights i = (s : Int) := ⟨((t : Int) - hb_w a_weights i).toNat, by omega⟩
    have ey : (241 : Int32) * (nI (M + 1) - 1) + 120 + hb_i ((t : Int) - 120 - hb_w a_weights i) = nI (241 * M + s) := by
      rw [nI_pred, show (241 : Int32) = hb_i 241 from rfl, show (120 : Int32) = hb_i 120 from rfl, hi_n M, hi_mul, hi_add, hi_add]
      exact hi_nat (by omega)
    have new := (hT M s (by omega) (by omega)).1 (by omega)
    rw [ex, ey, nI_clamp (by omega), nI_clamp (by omega)]
    have ix : vp_in (nI (241 * (M + 1) + t)) 5061 := vp_in_nI (by omega) (by decide)
    refine ⟨ix, vp_in_nI (by omega) (by decide), ix, nm_e (nm_r e1 (ih (t + 1) (by omega) _ (hb_TIs hT hN (by omega) ?_)))⟩
    rw [old, new, nI_add, hb]
    refine congrArg nI ?_
    rw [show (t : Int) - 120 - hb_w a_weights i = (s : Int) - 120 by omega]
theorem hx_bal51 {post : Int32 → SX → Prop} {J : Int32 → Int32 → Int32 → (Nat → Int32) → (Nat → Int32) → (Nat → Int32) → (Nat → Int32) → (Nat → Int32) → (Nat → Int32) → (Nat → Int32) → (Nat → Int32) → Prop} {x1 : Int32}
    (hW : hb_Wb a_weights) {i : Nat} {L : List Int} (hi : i < 5) (hLb : ∀ a, a ∈ L → -6 ≤ a ∧ a ≤ 6) (hJ : ∀ a_table, hb_TB (hb_w a_weights i :: L) a_table → J (nI (i + 1)) f_count f_current a_weights a_now a_next a_list a_powers a_table a_picked a_rest) :
    ∀ d N, N + d = 21 → 1 ≤ N → ∀ a_table, hb_TI (hb_w a_weights i) L (241 * N) a_table → wX_balances_51 post J x1 (nI i) (d + 1) (nI N) f_count f_current a_weights a_now a_next a_list a_powers a_table a_picked a_rest := by
  intro d
  induction d with
  | zero =>
    intro N hN _ a_table hT
    obtain rfl : N = 21 := by omega
    exact br_t (nI_le (a := 21) (b := 21) (by decide) (by decide)) (nm_r (nI_1 i) (hJ _ (hb_TIe hT)))
  | succ d ih =>
    intro N hN h1 a_table hT
    exact br_f (nI_ge (a := N) (b := 21) (by omega) (by decide)) (Exists.intro 242 (hx_add_l hW hi h1 (by omega) hLb (fun a_table hT' => nm_r (nI_1 N) (ih (N + 1) (by omega) (by omega) a_table hT')) 241 0 rfl a_table hT))
theorem hx_bal44 {post : Int32 → SX → Prop} {n : Nat} (hW : hb_Wb a_weights) (hn : n ≤ 20)
    (h : ∀ a_table, post (nI (hb_B [hb_w a_weights 0, hb_w a_weights 1, hb_w a_weights 2, hb_w a_weights 3, hb_w a_weights 4] n 0)) (f_count, f_current, a_weights, a_now, a_next, a_list, a_powers, a_table, a_picked, a_rest)) :
    ∀ d i, i + d = 5 → ∀ a_table, hb_TB (hb_rw (hb_w a_weights) i) a_table → wX_balances_44 post (nI n) (d + 1) (nI i) f_count f_current a_weights a_now a_next a_list a_powers a_table a_picked a_rest := by
  intro d
  induction d with
  | zero =>
    intro i hi a_table hT
    obtain rfl : i = 5 := by omega
    have e : (241 : Int32) * nI n + 120 = nI (241 * n + 120) := by
      rw [show (241 : Int32) = nI 241 from rfl, pk_mul]
      exact nI_add _ 120
    refine br_t (nI_le (a := 5) (b := 5) (by decide) (by decide)) ?_
    rw [e, nI_clamp (by omega)]
    refine ⟨vp_in_nI (by omega) (by decide), ?_⟩
    have q := hT n 120 hn (by decide)
    rw [hb_Bperm (hb_rw5 _)] at q
    rw [q]
    exact h _
  | succ d ih =>
    intro i hi a_table hT
    exact br_f (nI_ge (a := i) (b := 5) (by omega) (by decide)) (Exists.intro 21 (hx_bal51 hW (by omega) (hb_rwb hW i (by omega)) (fun a_table hT' => ih (i + 1) (by omega) a_table hT') 20 1 rfl (by decide) a_table (hb_TI0 hT)))
theorem hx_bal14 {post : Int32 → SX → Prop} {n : Nat} (hW : hb_Wb a_weights) (hn : n ≤ 20)
    (h : ∀ a_table, post (nI (hb_B [hb_w a_weights 0, hb_w a_weights 1, hb_w a_weights 2, hb_w a_weights 3, hb_w a_weights 4] n 0)) (f_count, f_current, a_weights, a_now, a_next, a_list, a_powers, a_table, a_picked, a_rest)) :
    ∀ d x, x + d = 5061 → ∀ a_table, (∀ j, j < x → a_table j = 0) → wX_balances_14 post (nI n) f_count f_current (d + 1) (nI x) a_weights a_now a_next a_list a_powers a_table a_picked a_rest := by
  intro d
  induction d with
  | zero =>
    intro x hx a_table hT
    obtain rfl : x = 5061 := by omega
    refine br_t (nI_le (a := 5061) (b := 5061) (by decide) (by decide)) (nm_e (Exists.intro 6 (hx_bal44 hW hn h 5 0 rfl _ ?_)))
    intro r t hr ht
    show _ = nI (hb_B [] r ((t : Int) - 120))
    rw [hb_B0]
    by_cases q : 241 * r + t = 120
    · rw [q, pk_us, if_pos (by omega)]; rfl
    · rw [pk_un q, hT _ (by omega), if_neg (by omega)]; rfl
  | succ d ih =>
    intro x hx a_table hT
    refine br_f (nI_ge (a := x) (b := 5061) (by omega) (by decide)) ⟨vp_in_nI (by omega) (by decide), nm_e (nm_r (nI_1 x) (ih (x + 1) (by omega) _ ?_))⟩
    intro j hj
    rw [nI_clamp (by omega)]
    by_cases q : j = x
    · rw [q, pk_us]
    · rw [pk_un q]; exact hT j (by omega)
end
section
variable {f_count : Int32} {f_current : Int32} {a_weights : Nat → Int32} {a_now : Nat → Int32} {a_next : Nat → Int32} {a_list : Nat → Int32} {a_powers : Nat → Int32} {a_table : Nat → Int32} {a_picked : Nat → Int32} {a_rest : Nat → Int32}
theorem hx_balances {post : Int32 → SX → Prop} {n : Nat} (hW : hb_Wb a_weights) (hn : n ≤ 20)
    (h : ∀ a_table, post (nI (hb_B [hb_w a_weights 0, hb_w a_weights 1, hb_w a_weights 2, hb_w a_weights 3, hb_w a_weights 4] n 0)) (f_count, f_current, a_weights, a_now, a_next, a_list, a_powers, a_table, a_picked, a_rest)) : wpX_balances post (f_count, f_current, a_weights, a_now, a_next, a_list, a_powers, a_table, a_picked, a_rest) (nI n) :=
  br_f (nI_pos (by omega)) (br_t (nI_lt (a := n) (b := 21) (by omega) (by decide)) (Exists.intro 5062 (hx_bal14 hW hn h 5061 0 rfl _ (fun j hj => (Nat.not_lt_zero j hj).elim))))
end
/-! the constructor -/
theorem hb_P7 : ∀ m, m < 4 → hb_P m = hb_P (m + 1) * 7 := by decide
section
variable {f_count f_current : Int32} {a_weights a_now a_next a_list a_table a_picked a_rest : Nat → Int32}
theorem hx_init_l {post : SX → Prop} (hpost : ∀ a_powers, hb_Pw a_powers → post (f_count, f_current, a_weights, a_now, a_next, a_list, a_powers, a_table, a_picked, a_rest)) : ∀ m, m ≤ 4 → ∀ a_powers, (∀ j, m ≤ j → j < 5 → a_powers j = nI (hb_P j)) → wX_init_79 post f_count f_current (m + 1) (nI m + (-1)) a_weights a_now a_next a_list a_powers a_table a_picked a_rest := by
  intro m
  induction m with
  | zero =>
    intro _ a_powers hp
    exact br_t (by decide) (hpost _ fun i hi => hp i (Nat.zero_le i) hi)
  | succ m ih =>
    intro hm a_powers hp
    rw [pk_m1]
    refine br_f (nI_pos (by omega)) ?_
    rw [nI_1, nI_clamp (by omega), nI_clamp (by omega)]
    refine ⟨vp_in_nI (by omega) (by decide), vp_in_nI (by omega) (by decide), nm_e (nm_e (ih (by omega) _ ?_))⟩
    intro j h1 h2
    by_cases q : j = m
    · rw [q, pk_us, hp (m + 1) (by omega) (by omega), hb_P7 m (by omega)]
      exact pk_mul _ 7
    · rw [pk_un q]; exact hp j (by omega) h2
end
theorem hx_init {post : SX → Prop} (hpost : ∀ a_powers, hb_Pw a_powers → post (0, 0, (fun _ => 0), (fun _ => 0), (fun _ => 0), (fun _ => 0), a_powers, (fun _ => 0), (fun _ => 0), (fun _ => 0))) : wpX_init post := by
  refine nm_e (Exists.intro 5 ?_)
  have q := hx_init_l hpost 4 (by decide) (upd (fun _ => 0) 4 1) ?_
  · rw [show nI 4 + (-1) = (3 : Int32) from by decide] at q
    exact q
  · intro j h1 h2
    obtain rfl : j = 4 := by omega
    rw [pk_us]
    rfl
end
section
/-! the component goes through all ways to take least balances off a row -/
noncomputable def hb_sf (w : Nat → Int) (k : Nat) : List Nat := (hb_L w).drop k
theorem hb_sf0 (w : Nat → Int) : hb_sf w 0 = hb_L w := rfl
theorem hb_sfn (w : Nat → Int) : hb_sf w (hb_n w) = [] := List.drop_eq_nil_of_le (Nat.le_refl _)
theorem hb_sfs {w : Nat → Int} {k : Nat} (h : k < hb_n w) : hb_sf w k = hb_l w k :: hb_sf w (k + 1) := by
  unfold hb_sf
  rw [List.drop_eq_getElem_cons h]
  unfold hb_l
  rw [← List.getElem_eq_getD (h := h)]
theorem hb_sfm {w : Nat → Int} {k a : Nat} (h : a ∈ hb_sf w k) : 0 < a ∧ a < 16807 := by
  have q := hb_Lmem.mp (List.mem_of_mem_drop h)
  exact ⟨hb_Mpos q, hb_Mlt q⟩
section
variable {f_count f_current x2 : Int32} {a_weights a_now a_next a_list a_powers a_table : Nat → Int32} {post : Int32 → SX → Prop}
theorem hx_take_l {w : Nat → Int} {n : Nat} (hP : hb_Pw a_powers) (hn : n = hb_n w) (hL : hb_Ls 400 f_count a_list n (hb_l w)) :
    ∀ s r, r < s → r < 16807 → 0 < r → ∀ d k, k + d = n → ∀ (D b : Nat) (f : Int32) (a_picked a_rest : Nat → Int32), D + hb_z r ≤ 30 → a_picked D = nI k → a_rest D = nI r → b ≤ 31 →
      (∀ p q : Nat → Int32, (∀ j, j < D → p j = a_picked j ∧ q j = a_rest j) → ∃ m, wX_take_37 post x2 f_count f_current m (nI D + (-1)) (f + nI (hb_W (hb_sf w k) r)) (nI (min b (D + hb_F (hb_sf w k) r))) a_weights a_now a_next a_list a_powers a_table p q) →
      ∃ m, wX_take_37 post x2 f_count f_current m (nI D) f (nI b) a_weights a_now a_next a_list a_powers a_table a_picked a_rest := by
  have hN := hL.2.1
  intro s
  induction s with
  | zero => intro r h; omega
  | succ s ihs =>
    intro r hrs hr r0 d
    induction d with
    | zero =>
      intro k hk D b f a_picked a_rest hD hp hq hb H
      obtain ⟨m, hm⟩ := H a_picked a_rest (fun _ _ => ⟨rfl, rfl⟩)
      have hz : 0 < hb_z r := Nat.pos_of_ne_zero fun h => by have := hb_z0 hr h; omega
      have ek : k = hb_n w := by omega
      rw [ek, hb_sfn, hb_W0, hb_F0, if_neg (by omega), if_neg (by omega), Nat.min_eq_left (by omega), nI_0, Int32.add_zero] at hm
      have c1 : (nI D).toNatClampNeg = D := nI_clamp (by omega)
      refine ⟨m + 1, br_f (nI_pos (by omega)) ⟨vp_in_nI (by omega) (by decide), nm_r (e' := nI k) (by rw [c1]; exact hp) (br_t ?_ (nm_e hm))⟩⟩
      rw [hL.1, hn, ek]
    | succ d ihd =>
      intro k hk D b f a_picked a_rest hD hp hq hb H
      have hz : 0 < hb_z r := Nat.pos_of_ne_zero fun h => by have := hb_z0 hr h; omega
      have hkn : k < hb_n w := by omega
      have hM := hb_lM hkn
      obtain ⟨el, al⟩ := hL.2.2 k (by omega)
      have es := hb_sfs hkn
      have c1 : (nI D).toNatClampNeg = D := nI_clamp (by omega)
      have ck : (nI k).toNatClampNeg = k := nI_clamp (by omega)
      have iD : vp_in (nI D) 40 := vp_in_nI (by omega) (by decide)
      have ik : vp_in (nI k) 400 := vp_in_nI (by omega) (by decide)
      have nk : ¬ nI k = f_count := by
        rw [hL.1, nI_eq (by omega) (by omega)]
        omega
      have low : ∀ (p q : Nat → Int32) (v : Int32), (∀ j, j < D → p j = upd a_picked D v j ∧ q j = a_rest j) → (∀ j, j < D → p j = a_picked j ∧ q j = a_rest j) := by
        intro p q v h j hj
        have := h j hj
        rw [pk_un (by omega)] at this
        exact this
      have e1 : a_picked (nI D).toNatClampNeg = nI k := by rw [c1]; exact hp
      have e2 : upd a_picked (nI D).toNatClampNeg (a_picked (nI D).toNatClampNeg + 1) = upd a_picked D (nI (k + 1)) := by rw [c1, hp, nI_1]
      have us : upd a_picked D (nI (k + 1)) D = nI (k + 1) := pk_us
      by_cases pt : hb_part (hb_l w k) r
      · have le := hb_ple al hr pt
        have eW := hb_Ws (L := hb_sf w (k + 1)) (hb_Mpos hM) al hr pt
        have eF := hb_Fs (L := hb_sf w (k + 1)) (hb_Mpos hM) al hr pt
        rw [← es] at eW eF
        have e3 : a_rest (nI D).toNatClampNeg - a_list (nI k).toNatClampNeg = nI (r - hb_l w k) := by rw [c1, ck, hq, el, pk_sub le]
        by_cases z : r - hb_l w k = 0
        · rw [z, hb_Wz fun a ha => hb_sfm ha] at eW
          rw [z, hb_Fz fun a ha => hb_sfm ha] at eF
          obtain ⟨m, hm⟩ := ihd (k + 1) (by omega) D (min b (D + 1)) (f + 1) (upd a_picked D (nI (k + 1))) a_rest hD us hq (by omega) (by
            intro p q h
            obtain ⟨m, hm⟩ := H p q (low p q _ h)
            refine ⟨m, ?_⟩
            rw [eW, eF, Nat.add_comm (hb_W (hb_sf w (k + 1)) r) 1, ← nI_add, ← Int32.add_assoc] at hm
            rw [show min (min b (D + 1)) (D + hb_F (hb_sf w (k + 1)) r) = min b (D + min (hb_F (hb_sf w (k + 1)) r) (0 + 1)) by omega]
            exact hm)
          refine ⟨m + 1, br_f (nI_pos (by omega)) ⟨iD, nm_r e1 (br_f nk ⟨iD, iD, nm_r e2 ⟨ik, iD, ?_⟩⟩)⟩⟩
          rw [ck, el, c1, hq]
          refine hx_part hP (by omega) (by omega) (fun _ => br_f (by decide) ⟨iD, ik, ?_⟩) (fun np => (np pt).elim)
          refine nm_r (e' := nI 0) (by rw [pk_sub le, z]) (br_t rfl (nm_e ?_))
          rw [nI_1, nI_leI (by omega) (by omega)]
          refine ⟨fun h => ?_, fun h => nm_e ?_⟩
          · rw [Nat.min_eq_left h] at hm; exact hm
          · rw [Nat.min_eq_right (by omega)] at hm; exact hm
        · have pl := hb_psub al hr pt
          have ll : r - hb_l w k < 16807 := by omega
          have zl := hb_zlt ll hr pl (by have := hb_Mpos hM; omega)
          have l0 := hb_Mpos hM
          have e4 : nI D + 1 = nI (D + 1) := nI_1 D
          have c2 : (nI (D + 1)).toNatClampNeg = D + 1 := nI_clamp (by omega)
          have iD1 : vp_in (nI (D + 1)) 40 := vp_in_nI (by omega) (by decide)
          obtain ⟨m, hm⟩ := ihs (r - hb_l w k) (by omega) ll (by omega) (d + 1) k hk (D + 1) b f (upd (upd a_picked D (nI (k + 1))) (D + 1) (nI k)) (upd a_rest (D + 1) (nI (r - hb_l w k))) (by omega) pk_us pk_us hb (by
            intro p q h
            rw [pk_m1]
            have hD' := h D (by omega)
            rw [pk_un (k := D + 1) (by omega), us, pk_un (k := D + 1) (by omega), hq] at hD'
            refine ihd (k + 1) (by omega) D _ _ p q hD hD'.1 hD'.2 (by omega) ?_
            intro p' q' h'
            obtain ⟨m, hm⟩ := H p' q' (by
              intro j hj
              have a1 := h' j hj
              have a2 := h j (by omega)
              rw [pk_un (by omega), pk_un (by omega), pk_un (by omega)] at a2
              exact ⟨a1.1.trans a2.1, a1.2.trans a2.2⟩)
            refine ⟨m, ?_⟩
            rw [eW, eF, Nat.add_comm (hb_W (hb_sf w (k + 1)) r), ← nI_add, ← Int32.add_assoc] at hm
            rw [show min (min b (D + 1 + hb_F (hb_sf w k) (r - hb_l w k))) (D + hb_F (hb_sf w (k + 1)) r) = min b (D + min (hb_F (hb_sf w (k + 1)) r) (hb_F (hb_sf w k) (r - hb_l w k) + 1)) by omega]
            exact hm)
          refine ⟨m + 1, br_f (nI_pos (by omega)) ⟨iD, nm_r e1 (br_f nk ⟨iD, iD, nm_r e2 ⟨ik, iD, ?_⟩⟩)⟩⟩
          rw [ck, el, c1, hq]
          refine hx_part hP (by omega) (by omega) (fun _ => br_f (by decide) ⟨iD, ik, ?_⟩) (fun np => (np pt).elim)
          refine nm_r (pk_sub le) (br_f (nI_ne0 (by omega) (by omega)) (nm_r e4 ⟨iD1, ?_⟩))
          rw [c2]
          exact nm_e ⟨iD1, nm_e hm⟩
      · have eW := hb_Wn (L := hb_sf w (k + 1)) pt
        have eF := hb_Fn (L := hb_sf w (k + 1)) pt
        rw [← es] at eW eF
        obtain ⟨m, hm⟩ := ihd (k + 1) (by omega) D b f (upd a_picked D (nI (k + 1))) a_rest hD us hq hb (by
          intro p q h
          have := H p q (low p q _ h)
          rw [eW, eF] at this
          exact this)
        refine ⟨m + 1, br_f (nI_pos (by omega)) ⟨iD, nm_r e1 (br_f nk ⟨iD, iD, nm_r e2 ⟨ik, iD, ?_⟩⟩)⟩⟩
        rw [ck, el, c1, hq]
        exact hx_part hP (by omega) (by omega) (fun p => (pt p).elim) (fun _ => br_t rfl hm)
end
section
variable {f_count : Int32} {f_current : Int32} {a_weights : Nat → Int32} {a_now : Nat → Int32} {a_next : Nat → Int32} {a_list : Nat → Int32} {a_powers : Nat → Int32} {a_table : Nat → Int32} {a_picked : Nat → Int32} {a_rest : Nat → Int32}
theorem hx_take {post : Int32 → SX → Prop} {w : Nat → Int} (hP : hb_Pw a_powers) (hL : hb_Ls 400 f_count a_list (hb_n w) (hb_l w)) {c : Nat} (hc : c < 16807) (hs : hb_s w c = 0) {x2 : Int32}
    (h : ∀ a_picked a_rest, ((x2 = 0 → post (nI (hb_W (hb_L w) c)) (f_count, f_current, a_weights, a_now, a_next, a_list, a_powers, a_table, a_picked, a_rest)) ∧ (¬ x2 = 0 → post (nI (hb_F (hb_L w) c)) (f_count, f_current, a_weights, a_now, a_next, a_list, a_powers, a_table, a_picked, a_rest)))) : wpX_take post (f_count, f_current, a_weights, a_now, a_next, a_list, a_powers, a_table, a_picked, a_rest) (nI c) x2 := by
  refine nm_e (nm_e ?_)
  have all : ∀ a, a ∈ hb_L w → 0 < a ∧ a < 16807 := fun a ha => ⟨hb_Mpos (hb_Lmem.mp ha), hb_Mlt (hb_Lmem.mp ha)⟩
  by_cases c0 : c = 0
  · have q := h (upd a_picked 0 0) (upd a_rest 0 (nI c))
    subst c0
    rw [hb_Wz all, hb_Fz all] at q
    exact br_t rfl q
  · refine br_f (nI_ne0 (by omega) (by omega)) ?_
    refine hx_take_l (w := w) hP rfl hL (c + 1) c (Nat.lt_succ_self c) hc (by omega) (hb_n w) 0 (Nat.zero_add _) 0 31 0 (upd a_picked 0 0) (upd a_rest 0 (nI c)) (by have := hb_z30 c; omega) pk_us pk_us (by decide) ?_
    intro p q _
    refine ⟨1, br_t (by decide) ?_⟩
    have z := hb_Fsz w (c + 1) c (Nat.lt_succ_self c) hc hs
    have z' := hb_z30 c
    have e1 : (0 : Int32) + nI (hb_W (hb_sf w 0) c) = nI (hb_W (hb_L w) c) := by rw [Int32.zero_add]; rfl
    have e2 : min 31 (0 + hb_F (hb_sf w 0) c) = hb_F (hb_L w) c := by
      rw [hb_sf0]
      omega
    rw [e1, e2]
    exact h p q
end
end
section
/-! rows at hand, as bits -/
def hb_bit (a : Nat → Int32) (c : Nat) : Bool := bt (a (c / 32)) (c % 32)
theorem hb_b1 (i : Nat) : bt 1 i = decide (i = 0) := by
  rcases Nat.lt_or_ge i 32 with h | h
  · exact (by decide +kernel : ∀ i, i < 32 → bt 1 i = decide (i = 0)) i h
  · rw [b_big h, decide_eq_false (by omega)]
theorem hb_t1 (x : Int32) {k : Nat} (hk : k < 32) : ((x.toUInt32 >>> ((nI k).toUInt32 &&& Int32.toUInt32 31)).toInt32 &&& 1) = 1 ↔ bt x k = true := by
  have e := b_ushr k hk x 0
  rw [Nat.add_zero] at e
  rw [← e]
  generalize (x.toUInt32 >>> ((nI k).toUInt32 &&& Int32.toUInt32 31)).toInt32 = y
  constructor
  · intro h
    have h2 := b_and y 1 0
    rw [h, hb_b1] at h2
    simpa using h2.symm
  · intro h
    refine b_ext fun i _ => ?_
    rw [b_and, hb_b1]
    by_cases q : i = 0
    · rw [q, h]; rfl
    · rw [decide_eq_false q, Bool.and_false]
theorem hb_one {k : Nat} (hk : k < 32) {i : Nat} (hi : i < 32) : bt ((1 : Int32) <<< (nI k &&& 31)) i = decide (i = k) := by
  rw [b_shl k hk 1 hi, hb_b1]
  by_cases q : i = k
  · rw [q, decide_eq_true (Nat.le_refl k), decide_eq_true (Nat.sub_self k), decide_eq_true rfl]; rfl
  · rw [decide_eq_false q]
    by_cases q2 : k ≤ i
    · rw [decide_eq_false (show ¬ i - k = 0 by omega), Bool.and_false]
    · rw [decide_eq_false q2, Bool.false_and]
theorem hb_set {a : Nat → Int32} {c : Nat} (x : Nat) : hb_bit (upd a (c / 32) (a (c / 32) ||| ((1 : Int32) <<< (nI (c % 32) &&& 31)))) x = (hb_bit a x || decide (x = c)) := by
  unfold hb_bit
  have m : c % 32 < 32 := Nat.mod_lt _ (by decide)
  have m' : x % 32 < 32 := Nat.mod_lt _ (by decide)
  by_cases q : x / 32 = c / 32
  · rw [q, pk_us, b_or, hb_one m m']
    by_cases q2 : x % 32 = c % 32
    · rw [decide_eq_true q2, decide_eq_true (show x = c by omega)]
    · rw [decide_eq_false q2, decide_eq_false (show ¬ x = c by omega)]
  · rw [pk_un q, decide_eq_false (show ¬ x = c by omega), Bool.or_false]
theorem hb_clr {a : Nat → Int32} {W k : Nat} (hk : k < 32) (x : Nat) : hb_bit (upd a W (a W &&& (((1 : Int32) <<< (nI k &&& 31)) ^^^ (-1)))) x = (hb_bit a x && !decide (x = 32 * W + k)) := by
  unfold hb_bit
  have m' : x % 32 < 32 := Nat.mod_lt _ (by decide)
  by_cases q : x / 32 = W
  · rw [q, pk_us, b_and, b_xor, hb_one hk m', b_m1 _ m', Bool.xor_true]
    by_cases q2 : x % 32 = k
    · rw [decide_eq_true q2, decide_eq_true (show x = 32 * W + k by omega)]
    · rw [decide_eq_false q2, decide_eq_false (show ¬ x = 32 * W + k by omega)]
  · rw [pk_un q, decide_eq_false (show ¬ x = 32 * W + k by omega)]
    simp
/-! gathering: the list holds the least balances of a smaller size, and of those of this size the ones passed -/
def hb_GL (w : Nat → Int) (s p n : Nat) (g : Nat → Nat) : Prop := (∀ i j, i < n → j < n → g i = g j → i = j) ∧ ∀ x, (∃ j, j < n ∧ g j = x) ↔ (hb_M w x ∧ (hb_z x < s ∨ (hb_z x = s ∧ x < p)))
def hb_N1 (s : Nat) (a : Nat → Int32) : Prop := ∀ c, c < 16832 → hb_bit a c = true → c < 16807 ∧ hb_z c = s
def hb_N2 (w : Nat → Int) (s : Nat) (a : Nat → Int32) : Prop := ∀ b, hb_M w b → s ≤ hb_z b → ∃ r, r < 16807 ∧ hb_bit a r = true ∧ hb_part r b
def hb_G1 (w : Nat → Int) (p : Nat) (a0 a : Nat → Int32) : Prop := ∀ c, c < 16832 → (p ≤ c → hb_bit a c = hb_bit a0 c) ∧ (c < p → (hb_bit a c = true ↔ hb_bit a0 c = true ∧ hb_s w c ≠ 0))
theorem hb_GLM {w : Nat → Int} {s p n : Nat} {g : Nat → Nat} (h : hb_GL w s p n g) {j : Nat} (hj : j < n) : hb_M w (g j) ∧ (hb_z (g j) < s ∨ (hb_z (g j) = s ∧ g j < p)) := (h.2 (g j)).mp ⟨j, hj, rfl⟩
theorem hb_GLn {w : Nat → Int} {s p n : Nat} {g : Nat → Nat} (h : hb_GL w s p n g) : n ≤ 343 := hb_343g (w := w) (fun _ hj => (hb_GLM h hj).1) h.1
theorem hb_GLj {w : Nat → Int} {s p p' n : Nat} {g : Nat → Nat} (h : hb_GL w s p n g) (hp : p ≤ p') (hn : ∀ c, p ≤ c → c < p' → ¬ (hb_M w c ∧ hb_z c = s)) : hb_GL w s p' n g := by
  refine ⟨h.1, fun x => ?_⟩
  rw [h.2 x]
  constructor
  · rintro ⟨h1, h2⟩
    exact ⟨h1, by omega⟩
  · rintro ⟨h1, h2⟩
    refine ⟨h1, ?_⟩
    rcases h2 with h2 | ⟨h2, h3⟩
    · exact Or.inl h2
    · refine Or.inr ⟨h2, Nat.lt_of_not_le fun h4 => hn x h4 h3 ⟨h1, h2⟩⟩
theorem hb_GLa {w : Nat → Int} {s p n : Nat} {g : Nat → Nat} (h : hb_GL w s p n g) (hM : hb_M w p) (hz : hb_z p = s) : hb_GL w s (p + 1) (n + 1) (hb_put g n p) := by
  have ne : ∀ j, j < n → g j ≠ p := fun j hj e => by have := (hb_GLM h hj).2; rw [e] at this; omega
  refine ⟨fun i j hi hj e => ?_, fun x => ?_⟩
  · by_cases qi : i = n
    · by_cases qj : j = n
      · omega
      · rw [qi, hb_puts, hb_putn qj] at e
        exact (ne j (by omega) e.symm).elim
    · by_cases qj : j = n
      · rw [qj, hb_puts, hb_putn qi] at e
        exact (ne i (by omega) e).elim
      · rw [hb_putn qi, hb_putn qj] at e
        exact h.1 i j (by omega) (by omega) e
  · constructor
    · rintro ⟨j, hj, e⟩
      by_cases q : j = n
      · rw [q, hb_puts] at e
        rw [← e]
        exact ⟨hM, Or.inr ⟨hz, by omega⟩⟩
      · rw [hb_putn q] at e
        have := hb_GLM h (j := j) (by omega)
        rw [e] at this
        exact ⟨this.1, by omega⟩
    · rintro ⟨h1, h2⟩
      by_cases q : x = p
      · exact ⟨n, by omega, by rw [hb_puts, q]⟩
      · obtain ⟨j, hj, e⟩ := (h.2 x).mpr ⟨h1, by omega⟩
        exact ⟨j, by omega, by rw [hb_putn (by omega)]; exact e⟩
theorem hb_GLx {w : Nat → Int} {s n : Nat} {g : Nat → Nat} (h : hb_GL w s 16832 n g) : hb_GL w (s + 1) 0 n g := by
  refine ⟨h.1, fun x => ?_⟩
  rw [h.2 x]
  constructor
  · rintro ⟨h1, h2⟩
    exact ⟨h1, by omega⟩
  · rintro ⟨h1, h2⟩
    have := hb_Mlt h1
    exact ⟨h1, by omega⟩
/-- a row that isn't at hand is no least balance of this size -/
theorem hb_off {w : Nat → Int} {s p c : Nat} {a0 a : Nat → Int32} (n1 : hb_N1 s a0) (n2 : hb_N2 w s a0) (h : hb_G1 w p a0 a) (hp : p ≤ c) (hc : c < 16832) (hb : hb_bit a c ≠ true) : ¬ (hb_M w c ∧ hb_z c = s) := by
  rintro ⟨hM, hz⟩
  obtain ⟨r, hr, h1, h2⟩ := n2 c hM (by omega)
  have q := n1 r (by omega) h1
  have e := hb_zeq hr (hb_Mlt hM) h2 (by omega)
  rw [e] at h1
  exact hb (by rw [(h c hc).1 hp]; exact h1)
theorem hb_G1k {w : Nat → Int} {p : Nat} {a0 a : Nat → Int32} (h : hb_G1 w p a0 a) (hk : hb_bit a p = true → hb_s w p ≠ 0) : hb_G1 w (p + 1) a0 a := by
  intro c hc
  have q := h c hc
  refine ⟨fun x => q.1 (by omega), fun x => ?_⟩
  by_cases e : c = p
  · subst e
    have q1 := q.1 (Nat.le_refl c)
    rw [← q1]
    exact ⟨fun z => ⟨z, hk z⟩, fun z => z.1⟩
  · exact q.2 (by omega)
theorem hb_G1c {w : Nat → Int} {W k : Nat} {a0 a : Nat → Int32} (hk : k < 32) (h : hb_G1 w (32 * W + k) a0 a) (hs : hb_s w (32 * W + k) = 0) : hb_G1 w (32 * W + k + 1) a0 (upd a W (a W &&& (((1 : Int32) <<< (nI k &&& 31)) ^^^ (-1)))) := by
  intro c hc
  have q := h c hc
  rw [hb_clr hk]
  by_cases e : c = 32 * W + k
  · refine ⟨fun x => by omega, fun _ => ?_⟩
    rw [decide_eq_true e]
    constructor
    · intro z; simp at z
    · rintro ⟨_, z⟩; rw [e] at z; exact (z hs).elim
  · rw [decide_eq_false e]
    have t : (hb_bit a c && !false) = hb_bit a c := by simp
    rw [t]
    exact ⟨fun x => q.1 (by omega), fun x => q.2 (by omega)⟩
theorem hb_G1j {w : Nat → Int} {p p' : Nat} {a0 a : Nat → Int32} (h : hb_G1 w p a0 a) (hp : p ≤ p') (hn : ∀ c, p ≤ c → c < p' → hb_bit a c ≠ true) : hb_G1 w p' a0 a := by
  intro c hc
  have q := h c hc
  refine ⟨fun x => q.1 (by omega), fun x => ?_⟩
  by_cases e : c < p
  · exact q.2 e
  · have n := hn c (by omega) x
    rw [← q.1 (by omega)]
    exact ⟨fun z => (n z).elim, fun z => (n z.1).elim⟩
section
variable {f_count : Int32} {f_current : Int32} {a_weights : Nat → Int32} {a_now : Nat → Int32} {a_next : Nat → Int32} {a_list : Nat → Int32} {a_powers : Nat → Int32} {a_table : Nat → Int32} {a_picked : Nat → Int32} {a_rest : Nat → Int32}
variable {post : SX → Prop}
theorem hx_g93 {J2 J11 : Int32 → Int32 → (Nat → Int32) → (Nat → Int32) → (Nat → Int32) → (Nat → Int32) → (Nat → Int32) → (Nat → Int32) → (Nat → Int32) → (Nat → Int32) → Prop} {W k : Nat} (hW : W < 526)
    (h : J11 (nI (k + 1)) f_count a_weights (upd a_now W (a_now W &&& (((1 : Int32) <<< (nI k &&& 31)) ^^^ (-1)))) a_next a_list a_powers a_table a_picked a_rest) : wX_gather_93 post J2 J11 (nI W) (nI k) f_count f_current a_weights a_now a_next a_list a_powers a_table a_picked a_rest := by
  have c : (nI W).toNatClampNeg = W := nI_clamp (by omega)
  have i : vp_in (nI W) 526 := vp_in_nI hW (by decide)
  unfold wX_gather_93
  rw [c]
  exact ⟨i, i, nm_e (nm_r (nI_1 k) h)⟩
end
section
variable {f_current : Int32} {a_weights a_next a_powers a_table a_picked a_rest a0 : Nat → Int32} {post : SX → Prop}
theorem hx_gat_i {J2 : Int32 → Int32 → (Nat → Int32) → (Nat → Int32) → (Nat → Int32) → (Nat → Int32) → (Nat → Int32) → (Nat → Int32) → (Nat → Int32) → (Nat → Int32) → Prop} {W s : Nat} (hP : hb_Pw a_powers) (hWb : hb_Wb a_weights) (hs : 1 ≤ s) (n1 : hb_N1 s a0) (n2 : hb_N2 (hb_w a_weights) s a0) (hW : W < 526)
    (hJ : ∀ f_count a_now a_list n g, hb_Ls 400 f_count a_list n g → hb_GL (hb_w a_weights) s (32 * (W + 1)) n g → hb_G1 (hb_w a_weights) (32 * (W + 1)) a0 a_now → J2 (nI (W + 1)) f_count a_weights a_now a_next a_list a_powers a_table a_picked a_rest) :
    ∀ d k, k + d = 32 → ∀ f_count a_now a_list n g, hb_Ls 400 f_count a_list n g → hb_GL (hb_w a_weights) s (32 * W + k) n g → hb_G1 (hb_w a_weights) (32 * W + k) a0 a_now → wX_gather_11 post J2 (nI W) f_current (d + 1) (nI k) f_count a_weights a_now a_next a_list a_powers a_table a_picked a_rest := by
  intro d
  induction d with
  | zero =>
    intro k hk f_count a_now a_list n g hL hG hB
    obtain rfl : k = 32 := by omega
    exact br_t (nI_le (a := 32) (b := 32) (by decide) (by decide)) (nm_r (nI_1 W) (hJ _ _ _ n g hL hG hB))
  | succ d ih =>
    intro k hk f_count a_now a_list n g hL hG hB
    have i : vp_in (nI W) 526 := vp_in_nI hW (by decide)
    have cW : (nI W).toNatClampNeg = W := nI_clamp (by omega)
    have q1 : (32 * W + k) / 32 = W := by omega
    have q2 : (32 * W + k) % 32 = k := by omega
    have ex : (32 : Int32) * nI W + nI k = nI (32 * W + k) := by
      rw [show (32 : Int32) = nI 32 from rfl, pk_mul, nI_add]
    have hn := hb_GLn hG
    refine br_f (nI_ge (a := k) (b := 32) (by omega) (by decide)) ⟨i, ?_⟩
    rw [cW]
    refine br_c (fun z => nm_r (nI_1 W) ?_) (fun z => nm_r ex ⟨i, ?_⟩)
    · have off : ∀ c, 32 * W + k ≤ c → c < 32 * (W + 1) → hb_bit a_now c ≠ true := by
        intro c h1 h2
        unfold hb_bit
        rw [show c / 32 = W by omega, z, b_0]
        decide
      exact hJ _ _ _ n g hL (hb_GLj hG (by omega) fun c h1 h2 => hb_off n1 n2 hB h1 (by omega) (off c h1 h2)) (hb_G1j hB (by omega) off)
    · rw [hb_t1 (a_now W) (by omega)]
      have eb : hb_bit a_now (32 * W + k) = bt (a_now W) k := by unfold hb_bit; rw [q1, q2]
      rw [← eb]
      refine br_c (fun hb => ?_) (fun hb => nm_r (nI_1 k) (ih (k + 1) (by omega) _ _ _ n g hL (hb_GLj hG (by omega) fun c h1 h2 => ?_) (hb_G1k hB fun x => (hb x).elim)))
      · have hb0 : hb_bit a0 (32 * W + k) = true := by rw [← (hB _ (by omega)).1 (Nat.le_refl _)]; exact hb
        obtain ⟨lt, hz⟩ := n1 _ (by omega) hb0
        have pos : 0 < 32 * W + k := Nat.pos_of_ne_zero fun e => by rw [e, hb_zz] at hz; omega
        refine hx_bal hP hWb (by omega) (fun s0 => ?_) (fun s0 => nm_r (nI_1 k) (ih (k + 1) (by omega) _ _ _ n g hL (hb_GLj hG (by omega) fun c h1 h2 => ?_) (hb_G1k hB fun _ => s0)))
        · refine hx_has hP hL (by omega) (fun hp => br_f (by decide) (hx_g93 hW ?_)) (fun hp => br_t rfl (br_f ?_ ⟨?_, nm_e (nm_e (hx_g93 hW ?_))⟩))
          · refine ih (k + 1) (by omega) _ _ _ n g hL (hb_GLj hG (by omega) fun c h1 h2 => ?_) (hb_G1c (by omega) hB s0)
            rintro ⟨hM, _⟩
            obtain rfl : c = 32 * W + k := by omega
            obtain ⟨j, hj, pj⟩ := hp
            have g1 := hb_GLM hG hj
            have e := hb_Manti g1.1 hM pj
            have g2 := g1.2
            rw [e] at g2
            omega
          · rw [hL.1]; exact nI_ge (a := n) (b := 400) (by omega) (by decide)
          · rw [hL.1]; exact vp_in_nI (by omega) (by decide)
          · refine ih (k + 1) (by omega) _ _ _ (n + 1) (hb_put g n (32 * W + k)) (hb_Lsadd hL (by omega) (by decide) lt) (hb_GLa hG ?_ hz) (hb_G1c (by omega) hB s0)
            refine hb_Mof pos lt s0 fun m hm pm => ?_
            refine Classical.byContradiction fun ne => hp ?_
            have zl := hb_zlt (hb_Mlt hm) lt pm ne
            obtain ⟨j, hj, e⟩ := (hG.2 m).mpr ⟨hm, Or.inl (by omega)⟩
            exact ⟨j, hj, by rw [e]; exact pm⟩
        · rintro ⟨hM, _⟩
          obtain rfl : c = 32 * W + k := by omega
          exact s0 (hb_Ms hM)
      · obtain rfl : c = 32 * W + k := by omega
        exact hb_off n1 n2 hB (Nat.le_refl _) (by omega) hb
theorem hx_gat_l {s : Nat} (hP : hb_Pw a_powers) (hWb : hb_Wb a_weights) (hs : 1 ≤ s) (n1 : hb_N1 s a0) (n2 : hb_N2 (hb_w a_weights) s a0)
    (hpost : ∀ f_count a_now a_list n g, hb_Ls 400 f_count a_list n g → hb_GL (hb_w a_weights) s 16832 n g → hb_G1 (hb_w a_weights) 16832 a0 a_now → post (f_count, f_current, a_weights, a_now, a_next, a_list, a_powers, a_table, a_picked, a_rest)) :
    ∀ d W, W + d = 526 → ∀ f_count a_now a_list n g, hb_Ls 400 f_count a_list n g → hb_GL (hb_w a_weights) s (32 * W) n g → hb_G1 (hb_w a_weights) (32 * W) a0 a_now → wX_gather_2 post f_current (d + 1) (nI W) f_count a_weights a_now a_next a_list a_powers a_table a_picked a_rest := by
  intro d
  induction d with
  | zero =>
    intro W hW f_count a_now a_list n g hL hG hB
    obtain rfl : W = 526 := by omega
    exact br_t (nI_le (a := 526) (b := 526) (by decide) (by decide)) (hpost _ _ _ n g hL hG hB)
  | succ d ih =>
    intro W hW f_count a_now a_list n g hL hG hB
    exact br_f (nI_ge (a := W) (b := 526) (by omega) (by decide)) (Exists.intro 33 (hx_gat_i hP hWb hs n1 n2 (by omega) (fun f_count a_now a_list n g hL hG hB => ih (W + 1) (by omega) f_count a_now a_list n g hL hG hB) 32 0 rfl f_count a_now a_list n g hL hG hB))
end
section
variable {f_count : Int32} {f_current : Int32} {a_weights : Nat → Int32} {a_now : Nat → Int32} {a_next : Nat → Int32} {a_list : Nat → Int32} {a_powers : Nat → Int32} {a_table : Nat → Int32} {a_picked : Nat → Int32} {a_rest : Nat → Int32}
variable {post : SX → Prop}
theorem hx_gather {s n : Nat} {g : Nat → Nat} (hP : hb_Pw a_powers) (hWb : hb_Wb a_weights) (hs : 1 ≤ s) (n1 : hb_N1 s a_now) (n2 : hb_N2 (hb_w a_weights) s a_now) (hL : hb_Ls 400 f_count a_list n g) (hG : hb_GL (hb_w a_weights) s 0 n g)
    (hpost : ∀ f_count b_now a_list n g, hb_Ls 400 f_count a_list n g → hb_GL (hb_w a_weights) (s + 1) 0 n g → (∀ c, c < 16832 → (hb_bit b_now c = true ↔ hb_bit a_now c = true ∧ hb_s (hb_w a_weights) c ≠ 0)) → post (f_count, f_current, a_weights, b_now, a_next, a_list, a_powers, a_table, a_picked, a_rest)) : wpX_gather post (f_count, f_current, a_weights, a_now, a_next, a_list, a_powers, a_table, a_picked, a_rest) := by
  refine Exists.intro 527 (hx_gat_l hP hWb hs n1 n2 (fun f_count b_now a_list n g hL hG hB => hpost f_count b_now a_list n g hL (hb_GLx hG) (fun c hc => (hB c hc).2 hc)) 526 0 rfl f_count a_now a_list n g hL hG ?_)
  exact fun c hc => ⟨fun _ => rfl, fun h => (Nat.not_lt_zero c h).elim⟩
end
end
section
/-! rows get one unit more -/
def hb_nr (w : Nat → Int) (c i : Nat) : Prop := (0 < hb_s w c ∧ w i < 0) ∨ (hb_s w c ≤ 0 ∧ 0 < w i)
/-- the unit i is to be given to the row c -/
def hb_ok (w : Nat → Int) (n : Nat) (g : Nat → Nat) (c i : Nat) : Prop := hb_nr w c i ∧ hb_d c i < 6 ∧ ¬ ∃ j, j < n ∧ hb_part (g j) (c + hb_P i)
def hb_GR (w : Nat → Int) (s n : Nat) (g : Nat → Nat) (c i : Nat) (a0 a : Nat → Int32) : Prop :=
  hb_N1 (s + 1) a ∧ (∀ m, hb_bit a0 m = true → hb_bit a m = true) ∧ ∀ j, j < i → hb_ok w n g c j → hb_bit a (c + hb_P j) = true
theorem hb_GRs {w : Nat → Int} {s n : Nat} {g : Nat → Nat} {c i : Nat} {a0 a : Nat → Int32} (h : hb_GR w s n g c i a0 a) (hn : ¬ hb_ok w n g c i) : hb_GR w s n g c (i + 1) a0 a := by
  refine ⟨h.1, h.2.1, fun j hj ok => ?_⟩
  by_cases q : j = i
  · rw [q] at ok; exact (hn ok).elim
  · exact h.2.2 j (by omega) ok
theorem hb_GRa {w : Nat → Int} {s n : Nat} {g : Nat → Nat} {c i : Nat} {a0 a : Nat → Int32} (h : hb_GR w s n g c i a0 a) (hc : c < 16807) (hz : hb_z c = s) (hi : i < 5) (h6 : hb_d c i < 6) :
    hb_GR w s n g c (i + 1) a0 (upd a ((c + hb_P i) / 32) (a ((c + hb_P i) / 32) ||| ((1 : Int32) <<< (nI ((c + hb_P i) % 32) &&& 31)))) := by
  refine ⟨fun m hm hb => ?_, fun m hb => ?_, fun j hj ok => ?_⟩
  · rw [hb_set] at hb
    by_cases q : m = c + hb_P i
    · rw [q]
      exact ⟨hb_ult hc hi h6, by rw [hb_uz hc hi h6, hz]⟩
    · rw [decide_eq_false q, Bool.or_false] at hb
      exact h.1 m hm hb
  · rw [hb_set, h.2.1 m hb, Bool.true_or]
  · rw [hb_set]
    by_cases q : j = i
    · rw [q, decide_eq_true rfl, Bool.or_true]
    · rw [h.2.2 j (by omega) ok, Bool.true_or]
section
variable {f_count f_current : Int32} {a_weights a_now a_list a_powers a_table a_picked a_rest a0 : Nat → Int32} {post : SX → Prop}
theorem hx_gr_l {s n : Nat} {g : Nat → Nat} {c : Nat} (hP : hb_Pw a_powers) (hWb : hb_Wb a_weights) (hL : hb_Ls 400 f_count a_list n g) (hc : c < 16807) (hz : hb_z c = s)
    (hpost : ∀ a_next, hb_GR (hb_w a_weights) s n g c 5 a0 a_next → post (f_count, f_current, a_weights, a_now, a_next, a_list, a_powers, a_table, a_picked, a_rest)) :
    ∀ d i, i + d = 5 → ∀ a_next, hb_GR (hb_w a_weights) s n g c i a0 a_next → wX_growRow_8 post (nI c) (hb_i (hb_s (hb_w a_weights) c)) f_count f_current (d + 1) (nI i) a_weights a_now a_next a_list a_powers a_table a_picked a_rest := by
  intro d
  induction d with
  | zero =>
    intro i hi a_next hG
    obtain rfl : i = 5 := by omega
    exact br_t (nI_le (a := 5) (b := 5) (by decide) (by decide)) (hpost _ hG)
  | succ d ih =>
    intro i hi a_next hG
    have hi5 : i < 5 := by omega
    have ii : vp_in (nI i) 5 := vp_in_nI hi5 (by decide)
    have ci : (nI i).toNatClampNeg = i := nI_clamp (by omega)
    have bs := hb_sb hWb c
    have bw := hWb i hi5
    have skip : ¬ hb_ok (hb_w a_weights) n g c i → wX_growRow_8 post (nI c) (hb_i (hb_s (hb_w a_weights) c)) f_count f_current (d + 1) (nI (i + 1)) a_weights a_now a_next a_list a_powers a_table a_picked a_rest := fun h => ih (i + 1) (by omega) _ (hb_GRs hG h)
    have h0 : ¬ hb_nr (hb_w a_weights) c i → wX_growRow_48 post (wX_growRow_8 post (nI c) (hb_i (hb_s (hb_w a_weights) c)) f_count f_current (d + 1)) (nI c) (hb_i (hb_s (hb_w a_weights) c)) (nI i) 0 f_count f_current a_weights a_now a_next a_list a_powers a_table a_picked a_rest :=
      fun h => br_t rfl (nm_r (nI_1 i) (skip fun ok => h ok.1))
    have h1 : hb_nr (hb_w a_weights) c i → wX_growRow_48 post (wX_growRow_8 post (nI c) (hb_i (hb_s (hb_w a_weights) c)) f_count f_current (d + 1)) (nI c) (hb_i (hb_s (hb_w a_weights) c)) (nI i) 1 f_count f_current a_weights a_now a_next a_list a_powers a_table a_picked a_rest := by
      intro h
      refine br_f (by decide) (hx_digit hP (by omega) hi5 ?_)
      by_cases h6 : hb_d c i < 6
      · have lt := hb_ult hc hi5 h6
        refine br_f (nI_ge (a := hb_d c i) (b := 6) h6 (by decide)) ⟨ii, nm_r (e' := nI (c + hb_P i)) (by rw [ci, hP i hi5, nI_add]) ?_⟩
        refine hx_has hP hL (by omega) (fun hp => br_f (by decide) (nm_r (nI_1 i) (skip fun ok => ok.2.2 hp))) (fun hp => br_t rfl ?_)
        have e1 : nI (c + hb_P i) >>> ((5 : Int32) &&& 31) = nI ((c + hb_P i) / 32) := pk_shrN (by omega) _ 5 (by decide)
        have e2 : nI (c + hb_P i) &&& 31 = nI ((c + hb_P i) % 32) := pk_andN (by omega) 5 (by decide)
        have i3 : vp_in (nI ((c + hb_P i) / 32)) 526 := vp_in_nI (by omega) (by decide)
        rw [e1, e2, nI_clamp (by omega)]
        exact ⟨i3, i3, nm_e (nm_r (nI_1 i) (ih (i + 1) (by omega) _ (hb_GRa hG hc hz hi5 h6)))⟩
      · exact br_t (nI_le (a := 6) (by omega) (by have := hb_d7 c i; omega)) (nm_r (nI_1 i) (skip fun ok => h6 ok.2.1))
    refine br_f (nI_ge (a := i) (b := 5) (by omega) (by decide)) ?_
    rw [ci, hi_w a_weights i]
    refine hi_cle _ 0 (fun hs => ⟨ii, ?_⟩) (fun hs => ⟨ii, ?_⟩) rfl rfl (by omega) (by omega) (by omega) (by omega)
    · refine hi_cle _ 0 (fun hw => h0 ?_) (fun hw => h1 (Or.inr ⟨hs, hw⟩)) rfl rfl (by omega) (by omega) (by omega) (by omega)
      rintro (⟨q1, q2⟩ | ⟨q1, q2⟩) <;> omega
    · refine hi_cle 0 _ (fun hw => h0 ?_) (fun hw => h1 (Or.inl ⟨hs, hw⟩)) rfl rfl (by omega) (by omega) (by omega) (by omega)
      rintro (⟨q1, q2⟩ | ⟨q1, q2⟩) <;> omega
end
section
variable {f_count : Int32} {f_current : Int32} {a_weights : Nat → Int32} {a_now : Nat → Int32} {a_next : Nat → Int32} {a_list : Nat → Int32} {a_powers : Nat → Int32} {a_table : Nat → Int32} {a_picked : Nat → Int32} {a_rest : Nat → Int32}
variable {post : SX → Prop}
theorem hx_growRow {s n : Nat} {g : Nat → Nat} {c : Nat} (hP : hb_Pw a_powers) (hWb : hb_Wb a_weights) (hL : hb_Ls 400 f_count a_list n g) (hc : c < 16807) (hz : hb_z c = s) (h1 : hb_N1 (s + 1) a_next)
    (hpost : ∀ b_next, hb_GR (hb_w a_weights) s n g c 5 a_next b_next → post (f_count, f_current, a_weights, a_now, b_next, a_list, a_powers, a_table, a_picked, a_rest)) : wpX_growRow post (f_count, f_current, a_weights, a_now, a_next, a_list, a_powers, a_table, a_picked, a_rest) (nI c) :=
  hx_sum (post := fun r_1 => ∃ n8 : Nat, wX_growRow_8 post (nI c) r_1 f_count f_current n8 0 a_weights a_now a_next a_list a_powers a_table a_picked a_rest) hP (by omega)
    (Exists.intro 6 (hx_gr_l hP hWb hL hc hz hpost 5 0 rfl a_next ⟨h1, fun _ h => h, fun j hj => (Nat.not_lt_zero j hj).elim⟩))
end
section
variable {f_count f_current : Int32} {a_weights a_now a_list a_powers a_table a_picked a_rest : Nat → Int32} {post : SX → Prop}
theorem hx_grow_l {s n : Nat} {g : Nat → Nat} (hP : hb_Pw a_powers) (hWb : hb_Wb a_weights) (hL : hb_Ls 400 f_count a_list n g) (n1 : hb_N1 s a_now)
    (hpost : ∀ a_next, hb_N1 (s + 1) a_next → (∀ c, c < 16807 → hb_bit a_now c = true → ∀ i, i < 5 → hb_ok (hb_w a_weights) n g c i → hb_bit a_next (c + hb_P i) = true) → post (f_count, f_current, a_weights, a_now, a_next, a_list, a_powers, a_table, a_picked, a_rest)) :
    ∀ d c, c + d = 16807 → ∀ a_next, hb_N1 (s + 1) a_next → (∀ c', c' < c → hb_bit a_now c' = true → ∀ i, i < 5 → hb_ok (hb_w a_weights) n g c' i → hb_bit a_next (c' + hb_P i) = true) → wX_grow_24 post (d + 1) (nI c) f_count f_current a_weights a_now a_next a_list a_powers a_table a_picked a_rest := by
  intro d
  induction d with
  | zero =>
    intro c hc a_next h1 h2
    obtain rfl : c = 16807 := by omega
    exact br_t (nI_le (a := 16807) (b := 16807) (by decide) (by decide)) (hpost _ h1 h2)
  | succ d ih =>
    intro c hc a_next h1 h2
    have e1 : nI c >>> ((5 : Int32) &&& 31) = nI (c / 32) := pk_shrN (by omega) _ 5 (by decide)
    have e2 : nI c &&& 31 = nI (c % 32) := pk_andN (by omega) 5 (by decide)
    refine br_f (nI_ge (a := c) (b := 16807) (by omega) (by decide)) ?_
    rw [e1, e2, nI_clamp (by omega), hb_t1 _ (Nat.mod_lt _ (by decide))]
    refine ⟨vp_in_nI (by omega) (by decide), fun hb => ?_, fun hb => nm_r (nI_1 c) (ih (c + 1) (by omega) _ h1 ?_)⟩
    · have q := n1 c (by omega) hb
      refine hx_growRow hP hWb hL q.1 q.2 h1 (fun b_next hG => nm_r (nI_1 c) (ih (c + 1) (by omega) _ hG.1 ?_))
      intro c' hc' hb' i hi ok
      by_cases e : c' = c
      · subst e; exact hG.2.2 i hi ok
      · exact hG.2.1 _ (h2 c' (by omega) hb' i hi ok)
    · intro c' hc' hb' i hi ok
      by_cases e : c' = c
      · subst e; exact (hb hb').elim
      · exact h2 c' (by omega) hb' i hi ok
theorem hx_grow_z {s n : Nat} {g : Nat → Nat} (hP : hb_Pw a_powers) (hWb : hb_Wb a_weights) (hL : hb_Ls 400 f_count a_list n g) (n1 : hb_N1 s a_now)
    (hpost : ∀ a_next, hb_N1 (s + 1) a_next → (∀ c, c < 16807 → hb_bit a_now c = true → ∀ i, i < 5 → hb_ok (hb_w a_weights) n g c i → hb_bit a_next (c + hb_P i) = true) → post (f_count, f_current, a_weights, a_now, a_next, a_list, a_powers, a_table, a_picked, a_rest)) :
    ∀ d x, x + d = 526 → ∀ a_next, (∀ j, j < x → a_next j = 0) → wX_grow_2 post f_count f_current (d + 1) (nI x) a_weights a_now a_next a_list a_powers a_table a_picked a_rest := by
  intro d
  induction d with
  | zero =>
    intro x hx a_next hz
    obtain rfl : x = 526 := by omega
    refine br_t (nI_le (a := 526) (b := 526) (by decide) (by decide)) (Exists.intro 16808 (hx_grow_l hP hWb hL n1 hpost 16807 0 rfl a_next ?_ (fun c h => (Nat.not_lt_zero c h).elim)))
    intro c hc hb
    unfold hb_bit at hb
    rw [hz (c / 32) (by omega), b_0] at hb
    cases hb
  | succ d ih =>
    intro x hx a_next hz
    refine br_f (nI_ge (a := x) (b := 526) (by omega) (by decide)) ⟨vp_in_nI (by omega) (by decide), nm_e (nm_r (nI_1 x) (ih (x + 1) (by omega) _ ?_))⟩
    intro j hj
    rw [nI_clamp (by omega)]
    by_cases q : j = x
    · rw [q, pk_us]
    · rw [pk_un q]; exact hz j (by omega)
end
section
variable {f_count : Int32} {f_current : Int32} {a_weights : Nat → Int32} {a_now : Nat → Int32} {a_next : Nat → Int32} {a_list : Nat → Int32} {a_powers : Nat → Int32} {a_table : Nat → Int32} {a_picked : Nat → Int32} {a_rest : Nat → Int32}
variable {post : SX → Prop}
theorem hx_grow {s n : Nat} {g : Nat → Nat} (hP : hb_Pw a_powers) (hWb : hb_Wb a_weights) (hL : hb_Ls 400 f_count a_list n g) (n1 : hb_N1 s a_now)
    (hpost : ∀ a_next, hb_N1 (s + 1) a_next → (∀ c, c < 16807 → hb_bit a_now c = true → ∀ i, i < 5 → hb_ok (hb_w a_weights) n g c i → hb_bit a_next (c + hb_P i) = true) → post (f_count, f_current, a_weights, a_now, a_next, a_list, a_powers, a_table, a_picked, a_rest)) : wpX_grow post (f_count, f_current, a_weights, a_now, a_next, a_list, a_powers, a_table, a_picked, a_rest) :=
  Exists.intro 527 (hx_grow_z hP hWb hL n1 hpost 526 0 rfl a_next (fun j hj => (Nat.not_lt_zero j hj).elim))
end
end
section
/-! the list is sorted -/
def hb_SI (Q : Nat → Prop) (n : Nat) (f : Nat → Nat) : Prop := (∀ i j, i < n → j < n → f i = f j → i = j) ∧ ∀ x, (∃ j, j < n ∧ f j = x) ↔ Q x
theorem hb_SIp {Q : Nat → Prop} {n : Nat} {f f' t : Nat → Nat} (h : hb_SI Q n f) (t1 : ∀ j, j < n → t j < n) (t2 : ∀ j, j < n → t (t j) = j) (e : ∀ j, j < n → f' j = f (t j)) : hb_SI Q n f' := by
  refine ⟨fun i j hi hj he => ?_, fun x => ?_⟩
  · rw [e i hi, e j hj] at he
    have := h.1 _ _ (t1 i hi) (t1 j hj) he
    rw [← t2 i hi, ← t2 j hj, this]
  · rw [← h.2 x]
    constructor
    · rintro ⟨j, hj, q⟩
      exact ⟨t j, t1 j hj, by rw [← e j hj]; exact q⟩
    · rintro ⟨j, hj, q⟩
      exact ⟨t j, t1 j hj, by rw [e _ (t1 j hj), t2 j hj]; exact q⟩
def hb_sw (a j : Nat) : Nat := if j = a then a + 1 else if j = a + 1 then a else j
theorem hb_swa (a : Nat) : hb_sw a a = a + 1 := if_pos rfl
theorem hb_swb (a : Nat) : hb_sw a (a + 1) = a := by
  unfold hb_sw
  rw [if_neg (by omega), if_pos rfl]
theorem hb_swn {a j : Nat} (h1 : j ≠ a) (h2 : j ≠ a + 1) : hb_sw a j = j := by
  unfold hb_sw
  rw [if_neg h1, if_neg h2]
theorem hb_SIsw {Q : Nat → Prop} {n a v : Nat} {g : Nat → Nat} (ha : a + 1 < n) (h : hb_SI Q n (hb_put g (a + 1) v)) : hb_SI Q n (hb_put (hb_put g (a + 1) (g a)) a v) := by
  refine hb_SIp (t := hb_sw a) h ?_ ?_ ?_
  · intro j hj
    unfold hb_sw
    split
    · exact ha
    · split
      · omega
      · exact hj
  · intro j hj
    by_cases q1 : j = a
    · rw [q1, hb_swa, hb_swb]
    · by_cases q2 : j = a + 1
      · rw [q2, hb_swb, hb_swa]
      · rw [hb_swn q1 q2, hb_swn q1 q2]
  · intro j hj
    by_cases q1 : j = a
    · rw [q1, hb_swa, hb_puts, hb_puts]
    · by_cases q2 : j = a + 1
      · rw [q2, hb_swb, hb_putn (by omega), hb_puts, hb_putn (by omega)]
      · rw [hb_swn q1 q2, hb_putn q1, hb_putn q2, hb_putn q2]
theorem hb_putid (g : Nat → Nat) (i : Nat) : hb_put g i (g i) = g := by
  funext j
  by_cases q : j = i
  · rw [q, hb_puts]
  · rw [hb_putn q]
theorem hb_Lsu {N : Nat} {f : Int32} {a : Nat → Int32} {n p v : Nat} {g : Nat → Nat} (hL : hb_Ls N f a n g) (hv : v < 16807) : hb_Ls N f (upd a p (nI v)) n (hb_put g p v) := by
  refine ⟨hL.1, hL.2.1, fun j hj => ?_⟩
  by_cases q : j = p
  · rw [q, pk_us, hb_puts]; exact ⟨rfl, hv⟩
  · rw [pk_un q, hb_putn q]; exact hL.2.2 j hj
def hb_so (i : Nat) (g : Nat → Nat) : Prop := ∀ a b, a < b → b < i → g a ≤ g b
section
variable {f_count f_current : Int32} {a_weights a_now a_next a_powers a_table a_picked a_rest : Nat → Int32} {post : SX → Prop}
theorem hx_sort_i {J : Int32 → (Nat → Int32) → (Nat → Int32) → (Nat → Int32) → (Nat → Int32) → (Nat → Int32) → (Nat → Int32) → (Nat → Int32) → (Nat → Int32) → Prop} {Q : Nat → Prop} {n i v : Nat} (hi : i < n) (hv : v < 16807)
    (hJ : ∀ a_list g, hb_Ls 400 f_count a_list n g → hb_SI Q n g → hb_so (i + 1) g → J (nI (i + 1)) a_weights a_now a_next a_list a_powers a_table a_picked a_rest) :
    ∀ t, t ≤ i → ∀ a_list g, hb_Ls 400 f_count a_list n g → hb_SI Q n (hb_put g t v) → (∀ a b, a < b → b ≤ i → a ≠ t → b ≠ t → g a ≤ g b) → (∀ j, t < j → j ≤ i → v < g j) →
      wX_sortList_19 post J (nI i) (nI v) f_count f_current (t + 1) (nI t) a_weights a_now a_next a_list a_powers a_table a_picked a_rest := by
  intro t
  induction t with
  | zero =>
    intro _ a_list g hL hS h1 h2
    refine br_t (by decide) ⟨vp_in_nI (by decide) (by decide), nm_e (nm_r (nI_1 i) ?_)⟩
    refine hJ _ (hb_put g 0 v) (hb_Lsu hL hv) hS ?_
    intro a b hab hb
    rw [hb_putn (show b ≠ 0 by omega)]
    by_cases q : a = 0
    · rw [q, hb_puts]; exact Nat.le_of_lt (h2 b (by omega) (by omega))
    · rw [hb_putn q]; exact h1 a b hab (by omega) q (by omega)
  | succ t ih =>
    intro ht a_list g hL hS h1 h2
    have hN := hL.2.1
    obtain ⟨e, lt⟩ := hL.2.2 t (by omega)
    have i1 : vp_in (nI t) 400 := vp_in_nI (by omega) (by decide)
    have i2 : vp_in (nI (t + 1)) 400 := vp_in_nI (by omega) (by decide)
    refine br_f (nI_nle (by omega) (by omega)) ?_
    rw [nI_pred, nI_clamp (by omega), nI_clamp (by omega), e, nI_leI (by omega) (by omega), pk_m1]
    refine ⟨i1, fun q => ⟨i2, nm_e (nm_r (nI_1 i) ?_)⟩, fun q => ⟨i1, i2, nm_e (nm_e ?_)⟩⟩
    · refine hJ _ (hb_put g (t + 1) v) (hb_Lsu hL hv) hS ?_
      intro a b hab hb
      by_cases qa : a = t + 1
      · rw [qa, hb_puts, hb_putn (by omega)]; exact Nat.le_of_lt (h2 b (by omega) (by omega))
      · by_cases qb : b = t + 1
        · rw [qb, hb_puts, hb_putn qa]
          by_cases qt : a = t
          · rw [qt]; exact q
          · exact Nat.le_trans (h1 a t (by omega) (by omega) (by omega) (by omega)) q
        · rw [hb_putn qa, hb_putn qb]; exact h1 a b hab (by omega) qa qb
    · refine ih (by omega) _ (hb_put g (t + 1) (g t)) (hb_Lsu hL lt) (hb_SIsw (by omega) hS) ?_ ?_
      · intro a b hab hb qa qb
        by_cases q1 : a = t + 1
        · rw [q1, hb_puts, hb_putn (by omega)]
          exact h1 t b (by omega) hb (by omega) (by omega)
        · by_cases q2 : b = t + 1
          · rw [q2, hb_puts, hb_putn q1]; exact h1 a t (by omega) (by omega) q1 (by omega)
          · rw [hb_putn q1, hb_putn q2]; exact h1 a b hab hb q1 q2
      · intro j hj hji
        by_cases q1 : j = t + 1
        · rw [q1, hb_puts]; omega
        · rw [hb_putn q1]; exact h2 j (by omega) hji
theorem hx_sort_l {Q : Nat → Prop} {n : Nat} (hpost : ∀ a_list g, hb_Ls 400 f_count a_list n g → hb_SI Q n g → hb_so n g → post (f_count, f_current, a_weights, a_now, a_next, a_list, a_powers, a_table, a_picked, a_rest)) :
    ∀ d i, n ≤ i + d → i + d ≤ 400 → ∀ a_list g, hb_Ls 400 f_count a_list n g → hb_SI Q n g → hb_so i g → wX_sortList_2 post f_count f_current (d + 1) (nI i) a_weights a_now a_next a_list a_powers a_table a_picked a_rest := by
  intro d
  induction d with
  | zero =>
    intro i hi hi' a_list g hL hS ho
    refine br_t ?_ (hpost _ g hL hS fun a b hab hb => ho a b hab (by omega))
    rw [hL.1]
    exact nI_le (by omega) (by omega)
  | succ d ih =>
    intro i hi hi' a_list g hL hS ho
    by_cases q : n ≤ i
    · refine br_t ?_ (hpost _ g hL hS fun a b hab hb => ho a b hab (by omega))
      rw [hL.1]
      exact nI_le (by omega) (by omega)
    · have hN := hL.2.1
      obtain ⟨e, lt⟩ := hL.2.2 i (by omega)
      refine br_f (by rw [hL.1]; exact nI_ge (by omega) (by omega)) ⟨vp_in_nI (by omega) (by decide), nm_r (e' := nI (g i)) (by rw [nI_clamp (by omega)]; exact e) (Exists.intro (i + 1) ?_)⟩
      refine hx_sort_i (Q := Q) (n := n) (by omega) lt (fun a_list g hL hS ho => ih (i + 1) (by omega) (by omega) a_list g hL hS ho) i (Nat.le_refl i) a_list g hL (by rw [hb_putid]; exact hS) ?_ ?_
      · intro a b hab hb _ qb
        exact ho a b hab (by omega)
      · intro j h1 h2
        omega
end
section
variable {f_count : Int32} {f_current : Int32} {a_weights : Nat → Int32} {a_now : Nat → Int32} {a_next : Nat → Int32} {a_list : Nat → Int32} {a_powers : Nat → Int32} {a_table : Nat → Int32} {a_picked : Nat → Int32} {a_rest : Nat → Int32}
variable {post : SX → Prop}
theorem hx_sort {w : Nat → Int} {n : Nat} {g : Nat → Nat} (hL : hb_Ls 400 f_count a_list n g) (hn : n ≤ 343) (hS : hb_SI (hb_M w) n g)
    (hpost : ∀ a_list, hb_Ls 400 f_count a_list (hb_n w) (hb_l w) → post (f_count, f_current, a_weights, a_now, a_next, a_list, a_powers, a_table, a_picked, a_rest)) : wpX_sortList post (f_count, f_current, a_weights, a_now, a_next, a_list, a_powers, a_table, a_picked, a_rest) := by
  refine Exists.intro 400 (hx_sort_l (Q := hb_M w) (n := n) ?_ 399 1 (by omega) (by decide) a_list g hL hS (fun a b hab hb => by omega))
  intro a_list g hL hS ho
  have e := hb_uniq (w := w) (g := g) (n := n) (fun i j hij hj => by
    have h1 := ho i j hij hj
    have h2 : g i ≠ g j := fun x => by have := hS.1 i j (by omega) hj x; omega
    omega) (fun c => (hS.2 c).symm)
  exact hpost _ (hb_Lseq hL e.1 e.2)
end
end
section
/-! the component finds the least balances -/
def hb_RX (w : Nat → Int) (f_count : Int32) (a_list : Nat → Int32) : Prop := hb_Ls 400 f_count a_list (hb_n w) (hb_l w)
theorem hb_bitc {a b : Nat → Int32} (h : ∀ j, j < 526 → a j = b j) {c : Nat} (hc : c < 16832) : hb_bit a c = hb_bit b c := by
  unfold hb_bit
  rw [h (c / 32) (by omega)]
theorem hb_next {w : Nat → Int} {s n : Nat} {g : Nat → Nat} {a0 a1 a2 : Nat → Int32} (hs : 1 ≤ s) (n1 : hb_N1 s a0) (n2 : hb_N2 w s a0) (hG : hb_GL w (s + 1) 0 n g)
    (hB : ∀ c, c < 16832 → (hb_bit a1 c = true ↔ hb_bit a0 c = true ∧ hb_s w c ≠ 0))
    (hR : ∀ c, c < 16807 → hb_bit a1 c = true → ∀ i, i < 5 → hb_ok w n g c i → hb_bit a2 (c + hb_P i) = true) : hb_N2 w (s + 1) a2 := by
  intro b hM hz
  obtain ⟨r, hr, hb, hp⟩ := n2 b hM (by omega)
  have q := n1 r (by omega) hb
  have hne : r ≠ b := fun e => by rw [e] at q; omega
  have r0 : 0 < r := Nat.pos_of_ne_zero fun e => by rw [e, hb_zz] at q; omega
  obtain ⟨s0, i, hi, hnr, hd⟩ := hb_step hM hr r0 hp hne
  have b7 := hb_d7 b i
  have up := hb_upart hr hi hp hd
  refine ⟨r + hb_P i, hb_ult hr hi (by omega), hR r hr ((hB r (by omega)).mpr ⟨hb, s0⟩) i hi ⟨?_, by omega, ?_⟩, up⟩
  · rcases hnr with h | h
    · exact Or.inl h
    · exact Or.inr ⟨by omega, h.2⟩
  · rintro ⟨j, hj, pj⟩
    have gm := hb_GLM hG hj
    have e := hb_Manti gm.1 hM (hb_ptr pj up)
    have g2 := gm.2
    rw [e] at g2
    omega
section
variable {f_count f_current x1 : Int32} {a_weights a_next a_list a_powers a_table a_picked a_rest : Nat → Int32} {post : SX → Prop}
theorem hx_copy {J : Int32 → Int32 → Int32 → (Nat → Int32) → (Nat → Int32) → (Nat → Int32) → (Nat → Int32) → (Nat → Int32) → (Nat → Int32) → (Nat → Int32) → (Nat → Int32) → Prop} {s : Nat}
    (hJ : ∀ a_now, (∀ j, j < 526 → a_now j = a_next j) → J (nI (s + 1)) f_count f_current a_weights a_now a_next a_list a_powers a_table a_picked a_rest) :
    ∀ d x, x + d = 526 → ∀ a_now, (∀ j, j < x → a_now j = a_next j) → wX_refresh_109 post J (nI s) f_count f_current (d + 1) (nI x) a_weights a_now a_next a_list a_powers a_table a_picked a_rest := by
  intro d
  induction d with
  | zero =>
    intro x hx a_now h
    obtain rfl : x = 526 := by omega
    exact br_t (nI_le (a := 526) (b := 526) (by decide) (by decide)) (nm_r (nI_1 s) (hJ _ h))
  | succ d ih =>
    intro x hx a_now h
    have i : vp_in (nI x) 526 := vp_in_nI (by omega) (by decide)
    refine br_f (nI_ge (a := x) (b := 526) (by omega) (by decide)) ?_
    rw [nI_clamp (by omega)]
    refine ⟨i, i, nm_e (nm_r (nI_1 x) (ih (x + 1) (by omega) _ ?_))⟩
    intro j hj
    by_cases q : j = x
    · rw [q, pk_us]
    · rw [pk_un q]; exact h j (by omega)
end
section
variable {f_current : Int32} {a_weights a_powers a_table a_picked a_rest : Nat → Int32} {post : SX → Prop}
theorem hx_ref93 (hP : hb_Pw a_powers) (hWb : hb_Wb a_weights) (hpost : ∀ f_count a_now a_next a_list, hb_RX (hb_w a_weights) f_count a_list → post (f_count, f_current, a_weights, a_now, a_next, a_list, a_powers, a_table, a_picked, a_rest)) :
    ∀ d s, s + d = 31 → 1 ≤ s → ∀ f_count a_now a_next a_list n g, hb_N1 s a_now → hb_N2 (hb_w a_weights) s a_now → hb_Ls 400 f_count a_list n g → hb_GL (hb_w a_weights) s 0 n g → wX_refresh_93 post (d + 1) (nI s) f_count f_current a_weights a_now a_next a_list a_powers a_table a_picked a_rest := by
  intro d
  induction d with
  | zero =>
    intro s hs _ f_count a_now a_next a_list n g n1 n2 hL hG
    obtain rfl : s = 31 := by omega
    refine br_t (nI_lt (a := 30) (b := 31) (by decide) (by decide)) (hx_sort (w := hb_w a_weights) hL (hb_GLn hG) ⟨hG.1, fun x => ?_⟩ (fun a_list hL => hpost _ _ _ _ hL))
    rw [hG.2 x]
    have := hb_z30 x
    exact ⟨fun h => h.1, fun h => ⟨h, Or.inl (by omega)⟩⟩
  | succ d ih =>
    intro s hs h1 f_count a_now a_next a_list n g n1 n2 hL hG
    refine br_f (nI_nlt (a := 30) (b := s) (by omega) (by decide)) (hx_gather hP hWb h1 n1 n2 hL hG ?_)
    intro f_count b_now a_list n g hL hG hB
    have m1 : hb_N1 s b_now := fun c hc hb => n1 c hc ((hB c hc).mp hb).1
    refine hx_grow (s := s) hP hWb hL m1 ?_
    intro a_next k1 k2
    refine Exists.intro 527 (hx_copy (s := s) ?_ 526 0 rfl b_now (fun j hj => (Nat.not_lt_zero j hj).elim))
    intro c_now he
    refine ih (s + 1) (by omega) (by omega) _ c_now a_next a_list n g ?_ ?_ hL hG
    · intro c hc hb
      rw [hb_bitc he hc] at hb
      exact k1 c hc hb
    · intro b hM hz
      obtain ⟨r, hr, hb, hp⟩ := hb_next h1 n1 n2 hG hB k2 b hM hz
      exact ⟨r, hr, by rw [hb_bitc he (by omega)]; exact hb, hp⟩
theorem hx_ref42 {f_count : Int32} {a_next a_list : Nat → Int32} (hP : hb_Pw a_powers) (hJ : ∀ a_now, (∀ c, c < 16832 → (hb_bit a_now c = true ↔ ∃ j, j < 5 ∧ c = hb_P j)) → ∃ n93, wX_refresh_93 post n93 1 f_count f_current a_weights a_now a_next a_list a_powers a_table a_picked a_rest) :
    ∀ d i, i + d = 5 → ∀ a_now, (∀ c, c < 16832 → (hb_bit a_now c = true ↔ ∃ j, j < i ∧ c = hb_P j)) → wX_refresh_42 post f_count f_current (d + 1) (nI i) a_weights a_now a_next a_list a_powers a_table a_picked a_rest := by
  intro d
  induction d with
  | zero =>
    intro i hi a_now h
    obtain rfl : i = 5 := by omega
    exact br_t (nI_le (a := 5) (b := 5) (by decide) (by decide)) (hJ _ h)
  | succ d ih =>
    intro i hi a_now h
    have hi5 : i < 5 := by omega
    have p1 := hb_P_lt i hi5
    have ii : vp_in (nI i) 5 := vp_in_nI hi5 (by decide)
    have e1 : nI (hb_P i) >>> ((5 : Int32) &&& 31) = nI (hb_P i / 32) := pk_shrN (by omega) _ 5 (by decide)
    have e2 : nI (hb_P i) &&& 31 = nI (hb_P i % 32) := pk_andN (by omega) 5 (by decide)
    have i3 : vp_in (nI (hb_P i / 32)) 526 := vp_in_nI (by omega) (by decide)
    refine br_f (nI_ge (a := i) (b := 5) (by omega) (by decide)) ?_
    rw [nI_clamp (by omega), hP i hi5, e1, e2, nI_clamp (by omega)]
    refine ⟨ii, ii, i3, ii, i3, nm_e (nm_r (nI_1 i) (ih (i + 1) (by omega) _ ?_))⟩
    intro c hc
    rw [hb_set, Bool.or_eq_true, h c hc, decide_eq_true_iff]
    constructor
    · rintro (⟨j, hj, e⟩ | e)
      · exact ⟨j, by omega, e⟩
      · exact ⟨i, by omega, e⟩
    · rintro ⟨j, hj, e⟩
      by_cases q : j = i
      · rw [q] at e; exact Or.inr e
      · exact Or.inl ⟨j, by omega, e⟩
theorem hx_ref20 {f_count : Int32} {a_next a_list : Nat → Int32} (hJ : ∀ a_now, (∀ j, j < 526 → a_now j = 0) → ∃ n42, wX_refresh_42 post f_count f_current n42 0 a_weights a_now a_next a_list a_powers a_table a_picked a_rest) :
    ∀ d x, x + d = 526 → ∀ a_now, (∀ j, j < x → a_now j = 0) → wX_refresh_20 post f_count f_current (d + 1) (nI x) a_weights a_now a_next a_list a_powers a_table a_picked a_rest := by
  intro d
  induction d with
  | zero =>
    intro x hx a_now h
    obtain rfl : x = 526 := by omega
    exact br_t (nI_le (a := 526) (b := 526) (by decide) (by decide)) (hJ _ h)
  | succ d ih =>
    intro x hx a_now h
    refine br_f (nI_ge (a := x) (b := 526) (by omega) (by decide)) ⟨vp_in_nI (by omega) (by decide), nm_e (nm_r (nI_1 x) (ih (x + 1) (by omega) _ ?_))⟩
    intro j hj
    rw [nI_clamp (by omega)]
    by_cases q : j = x
    · rw [q, pk_us]
    · rw [pk_un q]; exact h j (by omega)
end
section
variable {f_count : Int32} {f_current : Int32} {a_weights : Nat → Int32} {a_now : Nat → Int32} {a_next : Nat → Int32} {a_list : Nat → Int32} {a_powers : Nat → Int32} {a_table : Nat → Int32} {a_picked : Nat → Int32} {a_rest : Nat → Int32}
variable {post : SX → Prop}
theorem hx_refresh (hP : hb_Pw a_powers) (hWb : hb_Wb a_weights) (hR : f_current ≠ 0 → hb_RX (hb_w a_weights) f_count a_list)
    (hpost : ∀ f_count f_current a_now a_next a_list, hb_RX (hb_w a_weights) f_count a_list → post (f_count, f_current, a_weights, a_now, a_next, a_list, a_powers, a_table, a_picked, a_rest)) : wpX_refresh post (f_count, f_current, a_weights, a_now, a_next, a_list, a_powers, a_table, a_picked, a_rest) := by
  refine br_c (fun _ => ?_) (fun h => hpost _ _ _ _ _ (hR h))
  refine Exists.intro 527 (hx_ref20 ?_ 526 0 rfl a_now (fun j hj => (Nat.not_lt_zero j hj).elim))
  intro a_now hz
  refine Exists.intro 6 (hx_ref42 hP ?_ 5 0 rfl a_now ?_)
  · intro a_now hU
    refine Exists.intro 31 (hx_ref93 hP hWb (fun c a b l h => hpost c 1 a b l h) 30 1 rfl (Nat.le_refl 1) 0 a_now a_next a_list 0 (fun _ => 0) ?_ ?_ ⟨rfl, by decide, fun j hj => (Nat.not_lt_zero j hj).elim⟩ ?_)
    · intro c hc hb
      obtain ⟨j, hj, rfl⟩ := (hU c hc).mp hb
      exact ⟨hb_P_lt j hj, hb_Pz hj⟩
    · intro b hM _
      obtain ⟨i, hi, hd⟩ := hb_someD (hb_Mlt hM) (hb_Mpos hM)
      have lt := hb_P_lt i hi
      exact ⟨hb_P i, lt, (hU _ (by omega)).mpr ⟨i, hi, rfl⟩, hb_Ppart hi hd⟩
    · refine ⟨fun i _ hi => (Nat.not_lt_zero i hi).elim, fun x => ⟨fun ⟨j, hj, _⟩ => (Nat.not_lt_zero j hj).elim, fun ⟨hM, h⟩ => ?_⟩⟩
      have h0 : hb_z x ≠ 0 := fun e => by have := hb_z0 (hb_Mlt hM) e; have := hb_Mpos hM; omega
      omega
  · intro c hc
    unfold hb_bit
    rw [hz (c / 32) (by omega), b_0]
    exact ⟨fun h => (by cases h), fun ⟨j, hj, _⟩ => (Nat.not_lt_zero j hj).elim⟩
end
end
section
/-! the component's questions -/
def hb_bad (x : Int32) : Prop := x < 0 ∨ ∃ j : Nat, 16807 ≤ j ∧ j < 2147483648 ∧ x = nI j
theorem hb_codec (x : Int32) : hb_bad x ∨ ∃ j : Nat, j < 16807 ∧ x = nI j := by
  by_cases h : x < 0
  · exact Or.inl (Or.inl h)
  · obtain ⟨j, hj, e⟩ := nI_of h
    by_cases q : j < 16807
    · exact Or.inr ⟨j, q, e⟩
    · exact Or.inl (Or.inr ⟨j, by omega, hj, e⟩)
def hb_off5 (x : Int32) : Prop := x < 0 ∨ ∃ j : Nat, 5 ≤ j ∧ j < 2147483648 ∧ x = nI j
theorem hb_idxc (x : Int32) : hb_off5 x ∨ ∃ j : Nat, j < 5 ∧ x = nI j := by
  by_cases h : x < 0
  · exact Or.inl (Or.inl h)
  · obtain ⟨j, hj, e⟩ := nI_of h
    by_cases q : j < 5
    · exact Or.inr ⟨j, q, e⟩
    · exact Or.inl (Or.inr ⟨j, by omega, hj, e⟩)
theorem hx_code0 {post : Int32 → Prop} {x : Int32} (h : hb_bad x) (hp : post 0) : wpX_isCode post x := by
  rcases h with h | ⟨j, h1, h2, rfl⟩
  · exact br_t h hp
  · exact br_f (nI_pos h2) (br_t (nI_le (a := 16807) h1 h2) hp)
theorem hx_code1 {post : Int32 → Prop} {j : Nat} (h : j < 16807) (hp : post 1) : wpX_isCode post (nI j) :=
  br_f (nI_pos (by omega)) (br_f (nI_ge (a := j) (b := 16807) h (by decide)) hp)
theorem hx_idx0 {post : Int32 → Prop} {x : Int32} (h : hb_off5 x) (hp : post 0) : wpX_isIndex post x := by
  rcases h with h | ⟨j, h1, h2, rfl⟩
  · exact br_t h hp
  · exact br_f (nI_pos h2) (br_t (nI_le (a := 5) h1 h2) hp)
theorem hx_idx1 {post : Int32 → Prop} {j : Nat} (h : j < 5) (hp : post 1) : wpX_isIndex post (nI j) :=
  br_f (nI_pos (by omega)) (br_f (nI_ge (a := j) (b := 5) h (by decide)) hp)
/-- how many of the list's rows have a unit at i; the greatest of n numbers -/
noncomputable def hb_us (w : Nat → Int) (i k : Nat) : Nat := if hb_d (hb_l w k) i = 0 then 0 else 1
def hb_mx (f : Nat → Nat) : Nat → Nat
  | 0 => 0
  | n + 1 => if f n ≤ hb_mx f n then hb_mx f n else f n
theorem hb_mxb {f : Nat → Nat} (hf : ∀ k, f k ≤ 30) : ∀ n, hb_mx f n ≤ 30
  | 0 => by simp [hb_mx]
  | n + 1 => by
    have := hb_mxb hf n
    have := hf n
    simp only [hb_mx]
    split <;> omega
section
variable {f_count : Int32} {f_current : Int32} {a_weights : Nat → Int32} {a_now : Nat → Int32} {a_next : Nat → Int32} {a_list : Nat → Int32} {a_powers : Nat → Int32} {a_table : Nat → Int32} {a_picked : Nat → Int32} {a_rest : Nat → Int32}
theorem hx_isBalance {post : Int32 → Prop} (hP : hb_Pw a_powers) (hW : hb_Wb a_weights) {c : Nat} (hc : c < 16807) (h1 : hb_s (hb_w a_weights) c = 0 → post 1) (h0 : hb_s (hb_w a_weights) c ≠ 0 → post 0) : wpX_isBalance post (f_count, f_current, a_weights, a_now, a_next, a_list, a_powers, a_table, a_picked, a_rest) (nI c) := by
  unfold wpX_isBalance
  exact hx_code1 hc (br_f (by decide) (hx_bal hP hW (by omega) h1 h0))
theorem hx_isBalance0 {post : Int32 → Prop} {x : Int32} (hx : hb_bad x) (h : post (-1)) : wpX_isBalance post (f_count, f_current, a_weights, a_now, a_next, a_list, a_powers, a_table, a_picked, a_rest) x := by
  unfold wpX_isBalance
  exact hx_code0 hx (br_t rfl h)
theorem hx_small_l {post : Int32 → Prop} (hP : hb_Pw a_powers) (hW : hb_Wb a_weights) (h : post (nI (hb_bc (hb_w a_weights)))) : ∀ d c, c + d = 16807 → wX_small_4 post f_count f_current a_weights a_now a_next a_list a_powers a_table a_picked a_rest (d + 1) (nI (hb_S (hb_bf (hb_w a_weights)) c)) (nI c) := by
  intro d
  induction d with
  | zero =>
    intro c hc
    obtain rfl : c = 16807 := by omega
    exact br_t (nI_le (a := 16807) (b := 16807) (by decide) (by decide)) h
  | succ d ih =>
    intro c hc
    have q := ih (c + 1) (by omega)
    simp only [hb_S] at q
    refine br_f (nI_ge (a := c) (b := 16807) (by omega) (by decide)) (hx_bal hP hW (by omega) (fun hs => ?_) (fun hs => ?_))
    · rw [show hb_bf (hb_w a_weights) c = 1 from if_pos hs] at q
      exact nm_r (nI_1 _) (nm_r (nI_1 c) q)
    · rw [show hb_bf (hb_w a_weights) c = 0 from if_neg hs] at q
      exact nm_r (nI_add _ 0) (nm_r (nI_1 c) q)
theorem hx_small {post : Int32 → Prop} (hP : hb_Pw a_powers) (hW : hb_Wb a_weights) (h : post (nI (hb_bc (hb_w a_weights)))) : wpX_small post (f_count, f_current, a_weights, a_now, a_next, a_list, a_powers, a_table, a_picked, a_rest) :=
  Exists.intro 16808 (hx_small_l hP hW h 16807 0 rfl)
variable {post : Int32 → SX → Prop}
theorem hx_isLeast0 {x : Int32} (hx : hb_bad x) (h : post (-1) (f_count, f_current, a_weights, a_now, a_next, a_list, a_powers, a_table, a_picked, a_rest)) : wpX_isLeast post (f_count, f_current, a_weights, a_now, a_next, a_list, a_powers, a_table, a_picked, a_rest) x := by
  unfold wpX_isLeast
  exact hx_code0 hx (br_t rfl h)
theorem hx_isLeast (hP : hb_Pw a_powers) (hW : hb_Wb a_weights) (hR : f_current ≠ 0 → hb_RX (hb_w a_weights) f_count a_list) {c : Nat} (hc : c < 16807)
    (h : ∀ f_count f_current a_now a_next a_list, hb_RX (hb_w a_weights) f_count a_list → (((∃ j, j < hb_n (hb_w a_weights) ∧ hb_l (hb_w a_weights) j = c) → post 1 (f_count, f_current, a_weights, a_now, a_next, a_list, a_powers, a_table, a_picked, a_rest)) ∧ ((¬ ∃ j, j < hb_n (hb_w a_weights) ∧ hb_l (hb_w a_weights) j = c) → post 0 (f_count, f_current, a_weights, a_now, a_next, a_list, a_powers, a_table, a_picked, a_rest)))) : wpX_isLeast post (f_count, f_current, a_weights, a_now, a_next, a_list, a_powers, a_table, a_picked, a_rest) (nI c) := by
  unfold wpX_isLeast
  refine hx_code1 hc (br_f (by decide) (hx_refresh hP hW hR ?_))
  intro f_count f_current a_now a_next a_list hX
  have q := h f_count f_current a_now a_next a_list hX
  have hn := hX.2.1
  exact hx_place hX (by omega) (fun j hj e => br_f (nI_pos (by omega)) (q.1 ⟨j, hj, e⟩)) (fun hn => br_t (by decide) (q.2 fun ⟨j, hj, e⟩ => hn j hj e))
theorem hx_least (hP : hb_Pw a_powers) (hW : hb_Wb a_weights) (hR : f_current ≠ 0 → hb_RX (hb_w a_weights) f_count a_list)
    (h : ∀ f_count f_current a_now a_next a_list, hb_RX (hb_w a_weights) f_count a_list → post (nI (hb_n (hb_w a_weights))) (f_count, f_current, a_weights, a_now, a_next, a_list, a_powers, a_table, a_picked, a_rest)) : wpX_least post (f_count, f_current, a_weights, a_now, a_next, a_list, a_powers, a_table, a_picked, a_rest) := by
  unfold wpX_least
  refine hx_refresh hP hW hR ?_
  intro f_count f_current a_now a_next a_list hX
  have q := h f_count f_current a_now a_next a_list hX
  rw [← hX.1] at q
  exact q
theorem hx_code (hP : hb_Pw a_powers) (hW : hb_Wb a_weights) (hR : f_current ≠ 0 → hb_RX (hb_w a_weights) f_count a_list) {x : Int32}
    (h : ∀ f_count f_current a_now a_next a_list, hb_RX (hb_w a_weights) f_count a_list → (∀ j, j < hb_n (hb_w a_weights) → x = nI j → post (nI (hb_l (hb_w a_weights) j)) (f_count, f_current, a_weights, a_now, a_next, a_list, a_powers, a_table, a_picked, a_rest)) ∧ ((¬ ∃ j, j < hb_n (hb_w a_weights) ∧ x = nI j) → post (-1) (f_count, f_current, a_weights, a_now, a_next, a_list, a_powers, a_table, a_picked, a_rest))) : wpX_code post (f_count, f_current, a_weights, a_now, a_next, a_list, a_powers, a_table, a_picked, a_rest) x := by
  unfold wpX_code
  refine hx_refresh hP hW hR ?_
  intro f_count f_current a_now a_next a_list hX
  have q := h f_count f_current a_now a_next a_list hX
  have hn := hX.2.1
  by_cases h0 : x < 0
  · refine br_t h0 (q.2 ?_)
    rintro ⟨j, hj, rfl⟩
    exact nI_pos (by omega) h0
  · obtain ⟨j, hj, rfl⟩ := nI_of h0
    by_cases hjn : j < hb_n (hb_w a_weights)
    · refine br_f h0 (br_f (by rw [hX.1]; exact nI_ge hjn (by omega)) ⟨vp_in_nI (by omega) (by decide), ?_⟩)
      rw [nI_clamp hj, (hX.2.2 j hjn).1]
      exact q.1 j hjn rfl
    · refine br_f h0 (br_t (by rw [hX.1]; exact nI_le (by omega) hj) (q.2 ?_))
      rintro ⟨i, hi, e⟩
      have := (nI_eq hj (by omega)).mp e
      omega
theorem hx_using_l (hP : hb_Pw a_powers) {w : Nat → Int} (hX : hb_RX w f_count a_list) {i : Nat} (hi : i < 5) (h : post (nI (hb_S (hb_us w i) (hb_n w))) (f_count, f_current, a_weights, a_now, a_next, a_list, a_powers, a_table, a_picked, a_rest)) :
    ∀ d k, k + d = hb_n w → wX_using_17 post (nI i) f_count f_current a_weights a_now a_next a_list a_powers a_table a_picked a_rest (d + 1) (nI (hb_S (hb_us w i) k)) (nI k) := by
  have hn := hX.2.1
  intro d
  induction d with
  | zero =>
    intro k hk
    obtain rfl : k = hb_n w := by omega
    exact br_t (by rw [hX.1]; exact nI_le (by omega) (by omega)) h
  | succ d ih =>
    intro k hk
    obtain ⟨e, lt⟩ := hX.2.2 k (by omega)
    have q := ih (k + 1) (by omega)
    simp only [hb_S] at q
    refine br_f (by rw [hX.1]; exact nI_ge (by omega) (by omega)) ⟨vp_in_nI (by omega) (by decide), ?_⟩
    rw [nI_clamp (by omega), e]
    have b7 := hb_d7 (hb_l w k) i
    refine hx_digit hP (by omega) hi ?_
    by_cases z : hb_d (hb_l w k) i = 0
    · rw [show hb_us w i k = 0 from if_pos z] at q
      refine br_t (by rw [z]; decide) (nm_r (nI_add _ 0) (nm_r (nI_1 k) q))
    · rw [show hb_us w i k = 1 from if_neg z] at q
      exact br_f (nI_nle (by omega) (by omega)) (nm_r (nI_1 _) (nm_r (nI_1 k) q))
theorem hx_using0 {x : Int32} (hx : hb_off5 x) (h : post (-1) (f_count, f_current, a_weights, a_now, a_next, a_list, a_powers, a_table, a_picked, a_rest)) : wpX_using post (f_count, f_current, a_weights, a_now, a_next, a_list, a_powers, a_table, a_picked, a_rest) x := by
  unfold wpX_using
  exact hx_idx0 hx (br_t rfl h)
theorem hx_longest_l (hP : hb_Pw a_powers) {w : Nat → Int} (hX : hb_RX w f_count a_list) (h : post (nI (hb_mx (fun k => hb_z (hb_l w k)) (hb_n w))) (f_count, f_current, a_weights, a_now, a_next, a_list, a_powers, a_table, a_picked, a_rest)) :
    ∀ d k, k + d = hb_n w → wX_longest_8 post f_count f_current a_weights a_now a_next a_list a_powers a_table a_picked a_rest (d + 1) (nI (hb_mx (fun k => hb_z (hb_l w k)) k)) (nI k) := by
  have hn := hX.2.1
  intro d
  induction d with
  | zero =>
    intro k hk
    obtain rfl : k = hb_n w := by omega
    exact br_t (by rw [hX.1]; exact nI_le (by omega) (by omega)) h
  | succ d ih =>
    intro k hk
    obtain ⟨e, lt⟩ := hX.2.2 k (by omega)
    have q := ih (k + 1) (by omega)
    simp only [hb_mx] at q
    refine br_f (by rw [hX.1]; exact nI_ge (by omega) (by omega)) ⟨vp_in_nI (by omega) (by decide), ?_⟩
    rw [nI_clamp (by omega), e]
    have b1 := hb_z30 (hb_l w k)
    have b2 := hb_mxb (f := fun k => hb_z (hb_l w k)) (fun k => hb_z30 _) k
    refine hx_size hP (by omega) ?_
    rw [nI_leI (by omega) (by omega)]
    refine ⟨fun z => nm_r (nI_1 k) ?_, fun z => nm_r (nI_1 k) ?_⟩
    · rw [if_pos z] at q; exact q
    · rw [if_neg z] at q; exact q
theorem hx_inside_l (hP : hb_Pw a_powers) {w : Nat → Int} (hX : hb_RX w f_count a_list) {c : Nat} (hc : c < 16807)
    (h1 : ∀ k, k < hb_n w → (∀ j, j < k → ¬ hb_part (hb_l w j) c) → hb_part (hb_l w k) c → post (nI (hb_l w k)) (f_count, f_current, a_weights, a_now, a_next, a_list, a_powers, a_table, a_picked, a_rest)) (h0 : (∀ j, j < hb_n w → ¬ hb_part (hb_l w j) c) → post (-2) (f_count, f_current, a_weights, a_now, a_next, a_list, a_powers, a_table, a_picked, a_rest)) :
    ∀ d k, k + d = hb_n w → (∀ j, j < k → ¬ hb_part (hb_l w j) c) → wX_inside_15 post (nI c) f_count f_current a_weights a_now a_next a_list a_powers a_table a_picked a_rest (d + 1) (nI k) := by
  have hn := hX.2.1
  intro d
  induction d with
  | zero =>
    intro k hk hj
    obtain rfl : k = hb_n w := by omega
    exact br_t (by rw [hX.1]; exact nI_le (by omega) (by omega)) (h0 hj)
  | succ d ih =>
    intro k hk hj
    obtain ⟨e, lt⟩ := hX.2.2 k (by omega)
    have ik : vp_in (nI k) 400 := vp_in_nI (by omega) (by decide)
    refine br_f (by rw [hX.1]; exact nI_ge (by omega) (by omega)) ⟨ik, ?_⟩
    rw [nI_clamp (by omega), e]
    refine hx_part hP (by omega) (by omega) (fun p => br_f (by decide) ⟨ik, h1 k (by omega) hj p⟩) (fun p => br_t rfl (nm_r (nI_1 k) (ih (k + 1) (by omega) ?_)))
    intro j h
    by_cases q : j = k
    · rw [q]; exact p
    · exact hj j (by omega)
end
section
variable {f_count : Int32} {f_current : Int32} {a_weights : Nat → Int32} {a_now : Nat → Int32} {a_next : Nat → Int32} {a_list : Nat → Int32} {a_powers : Nat → Int32} {a_table : Nat → Int32} {a_picked : Nat → Int32} {a_rest : Nat → Int32}
variable {post : Int32 → SX → Prop}
theorem hx_using (hP : hb_Pw a_powers) (hW : hb_Wb a_weights) (hR : f_current ≠ 0 → hb_RX (hb_w a_weights) f_count a_list) {i : Nat} (hi : i < 5)
    (h : ∀ f_count f_current a_now a_next a_list, hb_RX (hb_w a_weights) f_count a_list → post (nI (hb_S (hb_us (hb_w a_weights) i) (hb_n (hb_w a_weights)))) (f_count, f_current, a_weights, a_now, a_next, a_list, a_powers, a_table, a_picked, a_rest)) : wpX_using post (f_count, f_current, a_weights, a_now, a_next, a_list, a_powers, a_table, a_picked, a_rest) (nI i) := by
  unfold wpX_using
  refine hx_idx1 hi (br_f (by decide) (hx_refresh hP hW hR ?_))
  intro f_count f_current a_now a_next a_list hX
  exact Exists.intro _ (hx_using_l hP hX hi (h f_count f_current a_now a_next a_list hX) (hb_n (hb_w a_weights)) 0 (Nat.zero_add _))
theorem hx_longest (hP : hb_Pw a_powers) (hW : hb_Wb a_weights) (hR : f_current ≠ 0 → hb_RX (hb_w a_weights) f_count a_list)
    (h : ∀ f_count f_current a_now a_next a_list, hb_RX (hb_w a_weights) f_count a_list → post (nI (hb_mx (fun k => hb_z (hb_l (hb_w a_weights) k)) (hb_n (hb_w a_weights)))) (f_count, f_current, a_weights, a_now, a_next, a_list, a_powers, a_table, a_picked, a_rest)) : wpX_longest post (f_count, f_current, a_weights, a_now, a_next, a_list, a_powers, a_table, a_picked, a_rest) := by
  unfold wpX_longest
  refine hx_refresh hP hW hR ?_
  intro f_count f_current a_now a_next a_list hX
  exact Exists.intro _ (hx_longest_l hP hX (h f_count f_current a_now a_next a_list hX) (hb_n (hb_w a_weights)) 0 (Nat.zero_add _))
theorem hx_inside0 {x : Int32} (hx : hb_bad x) (h : post (-1) (f_count, f_current, a_weights, a_now, a_next, a_list, a_powers, a_table, a_picked, a_rest)) : wpX_inside post (f_count, f_current, a_weights, a_now, a_next, a_list, a_powers, a_table, a_picked, a_rest) x := by
  unfold wpX_inside
  exact hx_code0 hx (br_t rfl h)
theorem hx_inside (hP : hb_Pw a_powers) (hW : hb_Wb a_weights) (hR : f_current ≠ 0 → hb_RX (hb_w a_weights) f_count a_list) {c : Nat} (hc : c < 16807)
    (h1 : ∀ k, k < hb_n (hb_w a_weights) → (∀ j, j < k → ¬ hb_part (hb_l (hb_w a_weights) j) c) → hb_part (hb_l (hb_w a_weights) k) c → ∀ f_count f_current a_now a_next a_list, hb_RX (hb_w a_weights) f_count a_list → post (nI (hb_l (hb_w a_weights) k)) (f_count, f_current, a_weights, a_now, a_next, a_list, a_powers, a_table, a_picked, a_rest))
    (h0 : (∀ j, j < hb_n (hb_w a_weights) → ¬ hb_part (hb_l (hb_w a_weights) j) c) → ∀ f_count f_current a_now a_next a_list, hb_RX (hb_w a_weights) f_count a_list → post (-2) (f_count, f_current, a_weights, a_now, a_next, a_list, a_powers, a_table, a_picked, a_rest)) : wpX_inside post (f_count, f_current, a_weights, a_now, a_next, a_list, a_powers, a_table, a_picked, a_rest) (nI c) := by
  unfold wpX_inside
  refine hx_code1 hc (br_f (by decide) (hx_refresh hP hW hR ?_))
  intro f_count f_current a_now a_next a_list hX
  exact Exists.intro _ (hx_inside_l hP hX hc (fun k hk hj p => h1 k hk hj p f_count f_current a_now a_next a_list hX) (fun hj => h0 hj f_count f_current a_now a_next a_list hX) (hb_n (hb_w a_weights)) 0 (Nat.zero_add _) (fun j h => (Nat.not_lt_zero j h).elim))
theorem hx_fewest0 {x : Int32} (hx : hb_bad x) (h : post (-1) (f_count, f_current, a_weights, a_now, a_next, a_list, a_powers, a_table, a_picked, a_rest)) : wpX_fewest post (f_count, f_current, a_weights, a_now, a_next, a_list, a_powers, a_table, a_picked, a_rest) x := by
  unfold wpX_fewest
  exact hx_code0 hx (br_t rfl h)
theorem hx_ways0 {x : Int32} (hx : hb_bad x) (h : post (-1) (f_count, f_current, a_weights, a_now, a_next, a_list, a_powers, a_table, a_picked, a_rest)) : wpX_ways post (f_count, f_current, a_weights, a_now, a_next, a_list, a_powers, a_table, a_picked, a_rest) x := by
  unfold wpX_ways
  exact hx_code0 hx (br_t rfl h)
theorem hx_fewest (hP : hb_Pw a_powers) (hW : hb_Wb a_weights) (hR : f_current ≠ 0 → hb_RX (hb_w a_weights) f_count a_list) {c : Nat} (hc : c < 16807) (h0 : hb_s (hb_w a_weights) c ≠ 0 → post (-2) (f_count, f_current, a_weights, a_now, a_next, a_list, a_powers, a_table, a_picked, a_rest))
    (h1 : hb_s (hb_w a_weights) c = 0 → ∀ f_count f_current a_now a_next a_list a_picked a_rest, hb_RX (hb_w a_weights) f_count a_list → post (nI (hb_F (hb_L (hb_w a_weights)) c)) (f_count, f_current, a_weights, a_now, a_next, a_list, a_powers, a_table, a_picked, a_rest)) : wpX_fewest post (f_count, f_current, a_weights, a_now, a_next, a_list, a_powers, a_table, a_picked, a_rest) (nI c) := by
  unfold wpX_fewest
  refine hx_code1 hc (br_f (by decide) (hx_bal hP hW (by omega) (fun hs => hx_refresh hP hW hR ?_) h0))
  intro f_count f_current a_now a_next a_list hX
  exact hx_take hP hX hc hs (fun a_picked a_rest => br_f (by decide) (h1 hs f_count f_current a_now a_next a_list a_picked a_rest hX))
theorem hx_ways (hP : hb_Pw a_powers) (hW : hb_Wb a_weights) (hR : f_current ≠ 0 → hb_RX (hb_w a_weights) f_count a_list) {c : Nat} (hc : c < 16807) (h0 : hb_s (hb_w a_weights) c ≠ 0 → post (-2) (f_count, f_current, a_weights, a_now, a_next, a_list, a_powers, a_table, a_picked, a_rest))
    (h1 : hb_s (hb_w a_weights) c = 0 → ∀ f_count f_current a_now a_next a_list a_picked a_rest, hb_RX (hb_w a_weights) f_count a_list → post (nI (hb_W (hb_L (hb_w a_weights)) c)) (f_count, f_current, a_weights, a_now, a_next, a_list, a_powers, a_table, a_picked, a_rest)) : wpX_ways post (f_count, f_current, a_weights, a_now, a_next, a_list, a_powers, a_table, a_picked, a_rest) (nI c) := by
  unfold wpX_ways
  refine hx_code1 hc (br_f (by decide) (hx_bal hP hW (by omega) (fun hs => hx_refresh hP hW hR ?_) h0))
  intro f_count f_current a_now a_next a_list hX
  exact hx_take hP hX hc hs (fun a_picked a_rest => br_t rfl (h1 hs f_count f_current a_now a_next a_list a_picked a_rest hX))
end
end
section
/-! the reference's questions -/
section
variable {f_ready : Int32} {f_count : Int32} {f_balances : Int32} {a_weights : Nat → Int32} {a_codes : Nat → Int32} {a_many : Nat → Int32} {a_few : Nat → Int32}
theorem hy_bad1 {post : Int32 → Prop} {x : Int32} (h : hb_bad x) (hp : post 1) : wpY_badCode post (f_ready, f_count, f_balances, a_weights, a_codes, a_many, a_few) x := by
  rcases h with h | ⟨j, h1, h2, rfl⟩
  · exact br_t h hp
  · exact br_f (nI_pos h2) (br_f (nI_ge (a := 16806) (b := j) (by omega) h2) hp)
theorem hy_bad0 {post : Int32 → Prop} {j : Nat} (h : j < 16807) (hp : post 0) : wpY_badCode post (f_ready, f_count, f_balances, a_weights, a_codes, a_many, a_few) (nI j) :=
  br_f (nI_pos (by omega)) (br_t (nI_le (a := j) (b := 16806) (by omega) (by decide)) hp)
theorem hy_isBalance {post : Int32 → Prop} (hW : hb_Wb a_weights) {c : Nat} (hc : c < 16807) (h1 : hb_s (hb_w a_weights) c = 0 → post 1) (h0 : hb_s (hb_w a_weights) c ≠ 0 → post 0) : wpY_isBalance post (f_ready, f_count, f_balances, a_weights, a_codes, a_many, a_few) (nI c) := by
  unfold wpY_isBalance
  exact hy_bad0 hc (br_t rfl (hy_bal hW hc (fun h => br_f (by decide) (h1 h)) (fun h => br_t rfl (h0 h))))
theorem hy_isBalance0 {post : Int32 → Prop} {x : Int32} (hx : hb_bad x) (h : post (-1)) : wpY_isBalance post (f_ready, f_count, f_balances, a_weights, a_codes, a_many, a_few) x := by
  unfold wpY_isBalance
  exact hy_bad1 hx (br_f (by decide) h)
variable {post : Int32 → SY → Prop}
theorem hy_small (hW : hb_Wb a_weights) (hR : f_ready ≠ 0 → hb_RY (hb_w a_weights) f_count f_balances a_codes)
    (h : ∀ f_ready f_count f_balances a_codes, hb_RY (hb_w a_weights) f_count f_balances a_codes → post (nI (hb_bc (hb_w a_weights))) (f_ready, f_count, f_balances, a_weights, a_codes, a_many, a_few)) : wpY_small post (f_ready, f_count, f_balances, a_weights, a_codes, a_many, a_few) := by
  unfold wpY_small
  refine hy_work hW hR ?_
  intro f_ready f_count f_balances a_codes hY
  have q := h f_ready f_count f_balances a_codes hY
  rw [← hY.2] at q
  exact q
theorem hy_least (hW : hb_Wb a_weights) (hR : f_ready ≠ 0 → hb_RY (hb_w a_weights) f_count f_balances a_codes)
    (h : ∀ f_ready f_count f_balances a_codes, hb_RY (hb_w a_weights) f_count f_balances a_codes → post (nI (hb_n (hb_w a_weights))) (f_ready, f_count, f_balances, a_weights, a_codes, a_many, a_few)) : wpY_least post (f_ready, f_count, f_balances, a_weights, a_codes, a_many, a_few) := by
  unfold wpY_least
  refine hy_work hW hR ?_
  intro f_ready f_count f_balances a_codes hY
  have q := h f_ready f_count f_balances a_codes hY
  rw [← hY.1.1] at q
  exact q
theorem hy_code (hW : hb_Wb a_weights) (hR : f_ready ≠ 0 → hb_RY (hb_w a_weights) f_count f_balances a_codes) {x : Int32}
    (h : ∀ f_ready f_count f_balances a_codes, hb_RY (hb_w a_weights) f_count f_balances a_codes → (∀ j, j < hb_n (hb_w a_weights) → x = nI j → post (nI (hb_l (hb_w a_weights) j)) (f_ready, f_count, f_balances, a_weights, a_codes, a_many, a_few)) ∧ ((¬ ∃ j, j < hb_n (hb_w a_weights) ∧ x = nI j) → post (-1) (f_ready, f_count, f_balances, a_weights, a_codes, a_many, a_few))) : wpY_code post (f_ready, f_count, f_balances, a_weights, a_codes, a_many, a_few) x := by
  unfold wpY_code
  refine hy_work hW hR ?_
  intro f_ready f_count f_balances a_codes hY
  have q := h f_ready f_count f_balances a_codes hY
  have hn := hY.1.2.1
  by_cases h0 : x < 0
  · refine br_t h0 (q.2 ?_)
    rintro ⟨j, hj, rfl⟩
    exact nI_pos (by omega) h0
  · obtain ⟨j, hj, rfl⟩ := nI_of h0
    by_cases hjn : j < hb_n (hb_w a_weights)
    · refine br_f h0 (br_f (by rw [hY.1.1]; exact nI_ge hjn (by omega)) (br_t (nI_le (a := j) (b := 1999) (by omega) (by decide)) ⟨vp_in_nI (by omega) (by decide), ?_⟩))
      rw [nI_clamp hj, (hY.1.2.2 j hjn).1]
      exact q.1 j hjn rfl
    · refine br_f h0 (br_t (by rw [hY.1.1]; exact nI_le (by omega) hj) (q.2 ?_))
      rintro ⟨i, hi, e⟩
      have := (nI_eq hj (by omega)).mp e
      omega
theorem hy_least_l {w : Nat → Int} (hY : hb_Ls 2000 f_count a_codes (hb_n w) (hb_l w)) {c : Nat} (hc : c < 16807) (h1 : (∃ j, j < hb_n w ∧ hb_l w j = c) → post 1 (f_ready, f_count, f_balances, a_weights, a_codes, a_many, a_few)) (h0 : (¬ ∃ j, j < hb_n w ∧ hb_l w j = c) → post 0 (f_ready, f_count, f_balances, a_weights, a_codes, a_many, a_few)) :
    ∀ d k, k + d = hb_n w → (∀ j, j < k → hb_l w j ≠ c) → wY_isLeast_16 post (nI c) f_ready f_count f_balances a_weights a_codes a_many a_few (d + 1) (nI k) := by
  have hn := hY.2.1
  intro d
  induction d with
  | zero =>
    intro k hk hj
    obtain rfl : k = hb_n w := by omega
    exact br_t (by rw [hY.1]; exact nI_le (by omega) (by omega)) (h0 fun ⟨j, h, e⟩ => hj j h e)
  | succ d ih =>
    intro k hk hj
    obtain ⟨e, lt⟩ := hY.2.2 k (by omega)
    refine br_f (by rw [hY.1]; exact nI_ge (by omega) (by omega)) (br_f (nI_ge (a := k) (b := 2000) (by omega) (by decide)) ⟨vp_in_nI (by omega) (by decide), ?_⟩)
    rw [nI_clamp (by omega), e, nI_eq (by omega) (by omega)]
    refine ⟨fun q => h1 ⟨k, by omega, q⟩, fun q => nm_r (nI_1 k) (ih (k + 1) (by omega) ?_)⟩
    intro j h
    by_cases q' : j = k
    · rw [q']; exact q
    · exact hj j (by omega)
theorem hy_using_l {w : Nat → Int} (hY : hb_Ls 2000 f_count a_codes (hb_n w) (hb_l w)) {i : Nat} (hi : i < 5) (h : post (nI (hb_S (hb_us w i) (hb_n w))) (f_ready, f_count, f_balances, a_weights, a_codes, a_many, a_few)) :
    ∀ d k, k + d = hb_n w → wY_using_19 post (nI i) f_ready f_count f_balances a_weights a_codes a_many a_few (d + 1) (nI (hb_S (hb_us w i) k)) (nI k) := by
  have hn := hY.2.1
  intro d
  induction d with
  | zero =>
    intro k hk
    obtain rfl : k = hb_n w := by omega
    exact br_t (by rw [hY.1]; exact nI_le (by omega) (by omega)) h
  | succ d ih =>
    intro k hk
    obtain ⟨e, lt⟩ := hY.2.2 k (by omega)
    have q := ih (k + 1) (by omega)
    simp only [hb_S] at q
    refine br_f (by rw [hY.1]; exact nI_ge (by omega) (by omega)) (br_f (nI_ge (a := k) (b := 2000) (by omega) (by decide)) ⟨vp_in_nI (by omega) (by decide), ?_⟩)
    rw [nI_clamp (by omega), e]
    have b7 := hb_d7 (hb_l w k) i
    refine hy_digit lt hi ?_
    by_cases z : hb_d (hb_l w k) i = 0
    · rw [show hb_us w i k = 0 from if_pos z] at q
      refine br_t (by rw [z]; decide) (nm_r (nI_1 k) q)
    · rw [show hb_us w i k = 1 from if_neg z] at q
      exact br_f (nI_nle (by omega) (by omega)) (nm_r (nI_1 _) (nm_r (nI_1 k) q))
theorem hy_long_i {J : Int32 → Int32 → Prop} {w : Nat → Int} (hY : hb_Ls 2000 f_count a_codes (hb_n w) (hb_l w)) {k m : Nat} (hk : k < hb_n w) (hm : m ≤ 30)
    (hJ : J (nI (if hb_z (hb_l w k) ≤ m then m else hb_z (hb_l w k))) (nI (k + 1))) :
    ∀ d i, i + d = 5 → wY_longest_28 post J (nI m) (nI k) f_ready f_count f_balances a_weights a_codes a_many a_few (d + 1) (nI (hb_zs (hb_l w k) i)) (nI i) := by
  have hn := hY.2.1
  obtain ⟨e, lt⟩ := hY.2.2 k hk
  intro d
  induction d with
  | zero =>
    intro i hi
    obtain rfl : i = 5 := by omega
    have b := hb_z30 (hb_l w k)
    refine br_t (nI_le (a := 5) (b := 5) (by decide) (by decide)) ?_
    show (nI (hb_z (hb_l w k)) ≤ nI m → _) ∧ (¬ nI (hb_z (hb_l w k)) ≤ nI m → _)
    rw [nI_leI (by omega) (by omega)]
    refine ⟨fun z => nm_r (nI_1 k) ?_, fun z => nm_r (nI_1 k) ?_⟩
    · rw [if_pos z] at hJ; exact hJ
    · rw [if_neg z] at hJ; exact hJ
  | succ d ih =>
    intro i hi
    refine br_f (nI_ge (a := i) (b := 5) (by omega) (by decide)) ⟨vp_in_nI (by omega) (by decide), ?_⟩
    rw [nI_clamp (by omega), e]
    exact hy_digit lt (by omega) (nm_r (nI_add _ _) (nm_r (nI_1 i) (ih (i + 1) (by omega))))
theorem hy_long_l {w : Nat → Int} (hY : hb_Ls 2000 f_count a_codes (hb_n w) (hb_l w)) (h : post (nI (hb_mx (fun k => hb_z (hb_l w k)) (hb_n w))) (f_ready, f_count, f_balances, a_weights, a_codes, a_many, a_few)) :
    ∀ d k, k + d = hb_n w → wY_longest_8 post f_ready f_count f_balances a_weights a_codes a_many a_few (d + 1) (nI (hb_mx (fun k => hb_z (hb_l w k)) k)) (nI k) := by
  have hn := hY.2.1
  intro d
  induction d with
  | zero =>
    intro k hk
    obtain rfl : k = hb_n w := by omega
    exact br_t (by rw [hY.1]; exact nI_le (by omega) (by omega)) h
  | succ d ih =>
    intro k hk
    have q := ih (k + 1) (by omega)
    simp only [hb_mx] at q
    exact br_f (by rw [hY.1]; exact nI_ge (by omega) (by omega)) (br_f (nI_ge (a := k) (b := 2000) (by omega) (by decide)) (Exists.intro 6 (hy_long_i hY (by omega) (hb_mxb (f := fun k => hb_z (hb_l w k)) (fun k => hb_z30 _) k) q 5 0 rfl)))
theorem hy_inside_l {w : Nat → Int} (hY : hb_Ls 2000 f_count a_codes (hb_n w) (hb_l w)) {c : Nat} (hc : c < 16807)
    (h1 : ∀ k, k < hb_n w → (∀ j, j < k → ¬ hb_part (hb_l w j) c) → hb_part (hb_l w k) c → post (nI (hb_l w k)) (f_ready, f_count, f_balances, a_weights, a_codes, a_many, a_few)) (h0 : (∀ j, j < hb_n w → ¬ hb_part (hb_l w j) c) → post (-2) (f_ready, f_count, f_balances, a_weights, a_codes, a_many, a_few)) :
    ∀ d k, k + d = hb_n w → (∀ j, j < k → ¬ hb_part (hb_l w j) c) → wY_inside_16 post (nI c) f_ready f_count f_balances a_weights a_codes a_many a_few (d + 1) (nI k) := by
  have hn := hY.2.1
  intro d
  induction d with
  | zero =>
    intro k hk hj
    obtain rfl : k = hb_n w := by omega
    exact br_t (by rw [hY.1]; exact nI_le (by omega) (by omega)) (h0 hj)
  | succ d ih =>
    intro k hk hj
    obtain ⟨e, lt⟩ := hY.2.2 k (by omega)
    have ik : vp_in (nI k) 2000 := vp_in_nI (by omega) (by decide)
    refine br_f (by rw [hY.1]; exact nI_ge (by omega) (by omega)) (br_f (nI_ge (a := k) (b := 2000) (by omega) (by decide)) ⟨ik, ?_⟩)
    rw [nI_clamp (by omega), e]
    refine hy_part lt hc (fun p => br_f (by decide) ⟨ik, h1 k (by omega) hj p⟩) (fun p => br_t rfl (nm_r (nI_1 k) (ih (k + 1) (by omega) ?_)))
    intro j h
    by_cases q : j = k
    · rw [q]; exact p
    · exact hj j (by omega)
end
section
variable {f_ready : Int32} {f_count : Int32} {f_balances : Int32} {a_weights : Nat → Int32} {a_codes : Nat → Int32} {a_many : Nat → Int32} {a_few : Nat → Int32}
variable {post : Int32 → SY → Prop}
theorem hy_isLeast0 {x : Int32} (hx : hb_bad x) (h : post (-1) (f_ready, f_count, f_balances, a_weights, a_codes, a_many, a_few)) : wpY_isLeast post (f_ready, f_count, f_balances, a_weights, a_codes, a_many, a_few) x := by
  unfold wpY_isLeast
  exact hy_bad1 hx (br_f (by decide) h)
theorem hy_isLeast (hW : hb_Wb a_weights) (hR : f_ready ≠ 0 → hb_RY (hb_w a_weights) f_count f_balances a_codes) {c : Nat} (hc : c < 16807)
    (h : ∀ f_ready f_count f_balances a_codes, hb_RY (hb_w a_weights) f_count f_balances a_codes → (((∃ j, j < hb_n (hb_w a_weights) ∧ hb_l (hb_w a_weights) j = c) → post 1 (f_ready, f_count, f_balances, a_weights, a_codes, a_many, a_few)) ∧ ((¬ ∃ j, j < hb_n (hb_w a_weights) ∧ hb_l (hb_w a_weights) j = c) → post 0 (f_ready, f_count, f_balances, a_weights, a_codes, a_many, a_few)))) : wpY_isLeast post (f_ready, f_count, f_balances, a_weights, a_codes, a_many, a_few) (nI c) := by
  unfold wpY_isLeast
  refine hy_bad0 hc (br_t rfl (hy_work hW hR ?_))
  intro f_ready f_count f_balances a_codes hY
  have q := h f_ready f_count f_balances a_codes hY
  exact Exists.intro _ (hy_least_l hY.1 hc q.1 q.2 (hb_n (hb_w a_weights)) 0 (Nat.zero_add _) (fun j h => (Nat.not_lt_zero j h).elim))
theorem hy_using0 {x : Int32} (hx : hb_off5 x) (h : post (-1) (f_ready, f_count, f_balances, a_weights, a_codes, a_many, a_few)) : wpY_using post (f_ready, f_count, f_balances, a_weights, a_codes, a_many, a_few) x := by
  rcases hx with hx | ⟨j, h1, h2, rfl⟩
  · exact br_t hx h
  · exact br_f (nI_pos h2) (br_f (nI_ge (a := 4) (b := j) (by omega) h2) h)
theorem hy_using (hW : hb_Wb a_weights) (hR : f_ready ≠ 0 → hb_RY (hb_w a_weights) f_count f_balances a_codes) {i : Nat} (hi : i < 5)
    (h : ∀ f_ready f_count f_balances a_codes, hb_RY (hb_w a_weights) f_count f_balances a_codes → post (nI (hb_S (hb_us (hb_w a_weights) i) (hb_n (hb_w a_weights)))) (f_ready, f_count, f_balances, a_weights, a_codes, a_many, a_few)) : wpY_using post (f_ready, f_count, f_balances, a_weights, a_codes, a_many, a_few) (nI i) := by
  refine br_f (nI_pos (by omega)) (br_t (nI_le (a := i) (b := 4) (by omega) (by decide)) (hy_work hW hR ?_))
  intro f_ready f_count f_balances a_codes hY
  exact Exists.intro _ (hy_using_l hY.1 hi (h f_ready f_count f_balances a_codes hY) (hb_n (hb_w a_weights)) 0 (Nat.zero_add _))
theorem hy_longest (hW : hb_Wb a_weights) (hR : f_ready ≠ 0 → hb_RY (hb_w a_weights) f_count f_balances a_codes)
    (h : ∀ f_ready f_count f_balances a_codes, hb_RY (hb_w a_weights) f_count f_balances a_codes → post (nI (hb_mx (fun k => hb_z (hb_l (hb_w a_weights) k)) (hb_n (hb_w a_weights)))) (f_ready, f_count, f_balances, a_weights, a_codes, a_many, a_few)) : wpY_longest post (f_ready, f_count, f_balances, a_weights, a_codes, a_many, a_few) := by
  unfold wpY_longest
  refine hy_work hW hR ?_
  intro f_ready f_count f_balances a_codes hY
  exact Exists.intro _ (hy_long_l hY.1 (h f_ready f_count f_balances a_codes hY) (hb_n (hb_w a_weights)) 0 (Nat.zero_add _))
theorem hy_inside0 {x : Int32} (hx : hb_bad x) (h : post (-1) (f_ready, f_count, f_balances, a_weights, a_codes, a_many, a_few)) : wpY_inside post (f_ready, f_count, f_balances, a_weights, a_codes, a_many, a_few) x := by
  unfold wpY_inside
  exact hy_bad1 hx (br_f (by decide) h)
theorem hy_inside (hW : hb_Wb a_weights) (hR : f_ready ≠ 0 → hb_RY (hb_w a_weights) f_count f_balances a_codes) {c : Nat} (hc : c < 16807)
    (h1 : ∀ k, k < hb_n (hb_w a_weights) → (∀ j, j < k → ¬ hb_part (hb_l (hb_w a_weights) j) c) → hb_part (hb_l (hb_w a_weights) k) c → ∀ f_ready f_count f_balances a_codes, hb_RY (hb_w a_weights) f_count f_balances a_codes → post (nI (hb_l (hb_w a_weights) k)) (f_ready, f_count, f_balances, a_weights, a_codes, a_many, a_few))
    (h0 : (∀ j, j < hb_n (hb_w a_weights) → ¬ hb_part (hb_l (hb_w a_weights) j) c) → ∀ f_ready f_count f_balances a_codes, hb_RY (hb_w a_weights) f_count f_balances a_codes → post (-2) (f_ready, f_count, f_balances, a_weights, a_codes, a_many, a_few)) : wpY_inside post (f_ready, f_count, f_balances, a_weights, a_codes, a_many, a_few) (nI c) := by
  unfold wpY_inside
  refine hy_bad0 hc (br_t rfl (hy_work hW hR ?_))
  intro f_ready f_count f_balances a_codes hY
  exact Exists.intro _ (hy_inside_l hY.1 hc (fun k hk hj p => h1 k hk hj p f_ready f_count f_balances a_codes hY) (fun hj => h0 hj f_ready f_count f_balances a_codes hY) (hb_n (hb_w a_weights)) 0 (Nat.zero_add _) (fun j h => (Nat.not_lt_zero j h).elim))
theorem hy_fewest0 {x : Int32} (hx : hb_bad x) (h : post (-1) (f_ready, f_count, f_balances, a_weights, a_codes, a_many, a_few)) : wpY_fewest post (f_ready, f_count, f_balances, a_weights, a_codes, a_many, a_few) x := by
  unfold wpY_fewest
  exact hy_bad1 hx (br_f (by decide) h)
theorem hy_ways0 {x : Int32} (hx : hb_bad x) (h : post (-1) (f_ready, f_count, f_balances, a_weights, a_codes, a_many, a_few)) : wpY_ways post (f_ready, f_count, f_balances, a_weights, a_codes, a_many, a_few) x := by
  unfold wpY_ways
  exact hy_bad1 hx (br_f (by decide) h)
theorem hy_fewest (hW : hb_Wb a_weights) (hR : f_ready ≠ 0 → hb_RY (hb_w a_weights) f_count f_balances a_codes) {c : Nat} (hc : c < 16807) (h0 : hb_s (hb_w a_weights) c ≠ 0 → post (-2) (f_ready, f_count, f_balances, a_weights, a_codes, a_many, a_few))
    (h1 : hb_s (hb_w a_weights) c = 0 → ∀ f_ready f_count f_balances a_codes a_many a_few, hb_RY (hb_w a_weights) f_count f_balances a_codes → post (nI (hb_F (hb_L (hb_w a_weights)) c)) (f_ready, f_count, f_balances, a_weights, a_codes, a_many, a_few)) : wpY_fewest post (f_ready, f_count, f_balances, a_weights, a_codes, a_many, a_few) (nI c) := by
  unfold wpY_fewest
  refine hy_bad0 hc (br_t rfl (hy_bal hW hc (fun hs => br_f (by decide) (hy_work hW hR ?_)) (fun hs => br_t rfl (h0 hs))))
  intro f_ready f_count f_balances a_codes hY
  refine hy_sums hc hY.1 ?_
  intro a_many a_few _ e
  have q := h1 hs f_ready f_count f_balances a_codes a_many a_few hY
  rw [← e] at q
  refine And.intro (vp_in_nI hc (by decide)) ?_
  show post (a_few (nI c).toNatClampNeg) _
  rw [nI_clamp (by omega)]
  exact q
theorem hy_ways (hW : hb_Wb a_weights) (hR : f_ready ≠ 0 → hb_RY (hb_w a_weights) f_count f_balances a_codes) {c : Nat} (hc : c < 16807) (h0 : hb_s (hb_w a_weights) c ≠ 0 → post (-2) (f_ready, f_count, f_balances, a_weights, a_codes, a_many, a_few))
    (h1 : hb_s (hb_w a_weights) c = 0 → ∀ f_ready f_count f_balances a_codes a_many a_few, hb_RY (hb_w a_weights) f_count f_balances a_codes → post (nI (hb_W (hb_L (hb_w a_weights)) c)) (f_ready, f_count, f_balances, a_weights, a_codes, a_many, a_few)) : wpY_ways post (f_ready, f_count, f_balances, a_weights, a_codes, a_many, a_few) (nI c) := by
  unfold wpY_ways
  refine hy_bad0 hc (br_t rfl (hy_bal hW hc (fun hs => br_f (by decide) (hy_work hW hR ?_)) (fun hs => br_t rfl (h0 hs))))
  intro f_ready f_count f_balances a_codes hY
  refine hy_sums hc hY.1 ?_
  intro a_many a_few e _
  have q := h1 hs f_ready f_count f_balances a_codes a_many a_few hY
  rw [← e] at q
  refine And.intro (vp_in_nI hc (by decide)) ?_
  show post (a_many (nI c).toNatClampNeg) _
  rw [nI_clamp (by omega)]
  exact q
end
end
section
/-! weights are set -/
theorem hb_Wbu {a : Nat → Int32} (h : hb_Wb a) {i : Nat} {v : Int32} (h1 : -6 ≤ v.toInt) (h2 : v.toInt ≤ 6) : hb_Wb (upd a i v) := by
  intro j hj
  unfold hb_w
  by_cases q : j = i
  · rw [q, pk_us]; exact ⟨h1, h2⟩
  · rw [pk_un q]; exact h j hj
theorem hs_e {p q i : Nat} (hp : p ≤ 12) (hq : q ≤ 12) (hi : i < 5) : ∃ z : Int, -6 ≤ z ∧ z ≤ 6 ∧ (((nI p + (5 * nI i)) + ((nI q * nI i) * nI i)) - ((nI p + (5 * nI i)) + ((nI q * nI i) * nI i)) / 13 * 13) - 6 = hb_i z := by
  have b : q * i * i ≤ 12 * 4 * 4 := Nat.mul_le_mul (Nat.mul_le_mul hq (by omega)) (by omega)
  have e : (nI p + (5 * nI i)) + ((nI q * nI i) * nI i) = nI (p + 5 * i + q * i * i) := by
    rw [show (5 : Int32) = nI 5 from rfl, pk_mul, pk_mul, pk_mul, nI_add, nI_add]
  have r : nI (p + 5 * i + q * i * i) - nI (p + 5 * i + q * i * i) / 13 * 13 = nI ((p + 5 * i + q * i * i) % 13) := pk_rem (d := 13) (by omega) (by decide) (by decide)
  have m : (p + 5 * i + q * i * i) % 13 < 13 := Nat.mod_lt _ (by decide)
  refine ⟨((p + 5 * i + q * i * i) % 13 : Nat) - 6, by omega, by omega, ?_⟩
  rw [e, r, hi_n, show (6 : Int32) = hb_i 6 from rfl, hi_sub]
theorem hs_l {p q : Nat} (hp : p ≤ 12) (hq : q ≤ 12) : ∀ d i, i + d = 5 → ∀ (x3 : Int32) (a_weights : Nat → Int32), hb_Wb a_weights → ∃ (r : Int32) (b_weights : Nat → Int32), hb_Wb b_weights ∧
    (∀ (post : Int32 → SX → Prop) (f_count f_current : Int32) (a_now a_next a_list a_powers a_table a_picked a_rest : Nat → Int32), post r (f_count, 0, b_weights, a_now, a_next, a_list, a_powers, a_table, a_picked, a_rest) → wX_sow_30 post (nI p) (nI q) f_count f_current (d + 1) x3 (nI i) a_weights a_now a_next a_list a_powers a_table a_picked a_rest) ∧
    (∀ (post : Int32 → SY → Prop) (f_ready f_count f_balances : Int32) (a_codes a_many a_few : Nat → Int32), post r (0, f_count, f_balances, b_weights, a_codes, a_many, a_few) → wY_sow_30 post (nI p) (nI q) f_ready f_count f_balances (d + 1) x3 (nI i) a_weights a_codes a_many a_few) := by
  intro d
  induction d with
  | zero =>
    intro i hi x3 a_weights hW
    obtain rfl : i = 5 := by omega
    have h5 : (5 : Int32) ≤ nI 5 := nI_le (a := 5) (b := 5) (by decide) (by decide)
    exact ⟨x3, a_weights, hW, fun post f_count f_current a_now a_next a_list a_powers a_table a_picked a_rest h => br_t h5 h, fun post f_ready f_count f_balances a_codes a_many a_few h => br_t h5 h⟩
  | succ d ih =>
    intro i hi x3 a_weights hW
    obtain ⟨z, z1, z2, e⟩ := hs_e (i := i) hp hq (by omega)
    have h5 : ¬ (5 : Int32) ≤ nI i := nI_ge (a := i) (b := 5) (by omega) (by decide)
    have ii : vp_in (nI i) 5 := vp_in_nI (by omega) (by decide)
    have hW' : hb_Wb (upd a_weights (nI i).toNatClampNeg ((((nI p + (5 * nI i)) + ((nI q * nI i) * nI i)) - ((nI p + (5 * nI i)) + ((nI q * nI i) * nI i)) / 13 * 13) - 6)) := by
      rw [e]
      refine hb_Wbu hW ?_ ?_
      · rw [hi_t (by omega) (by omega)]; exact z1
      · rw [hi_t (by omega) (by omega)]; exact z2
    obtain ⟨r, b_weights, hb, hX, hY⟩ := ih (i + 1) (by omega) (x3 + (upd a_weights (nI i).toNatClampNeg ((((nI p + (5 * nI i)) + ((nI q * nI i) * nI i)) - ((nI p + (5 * nI i)) + ((nI q * nI i) * nI i)) / 13 * 13) - 6)) (nI i).toNatClampNeg) _ hW'
    refine ⟨r, b_weights, hb, ?_, ?_⟩
    · intro post f_count f_current a_now a_next a_list a_powers a_table a_picked a_rest h
      exact br_f h5 ⟨by decide, ii, nm_e ⟨ii, nm_e (nm_r (nI_1 i) (hX post f_count f_current a_now a_next a_list a_powers a_table a_picked a_rest h))⟩⟩
    · intro post f_ready f_count f_balances a_codes a_many a_few h
      exact br_f h5 ⟨by decide, ii, nm_e ⟨ii, nm_e (nm_r (nI_1 i) (hY post f_ready f_count f_balances a_codes a_many a_few h))⟩⟩
section
variable {f_count : Int32} {f_current : Int32} {a_weights : Nat → Int32} {a_now : Nat → Int32} {a_next : Nat → Int32} {a_list : Nat → Int32} {a_powers : Nat → Int32} {a_table : Nat → Int32} {a_picked : Nat → Int32} {a_rest : Nat → Int32}
variable {post : Int32 → SX → Prop}
theorem hx_set0 {x p1 : Int32} (hx : hb_off5 x) (h : post (-1) (f_count, f_current, a_weights, a_now, a_next, a_list, a_powers, a_table, a_picked, a_rest)) : wpX_set post (f_count, f_current, a_weights, a_now, a_next, a_list, a_powers, a_table, a_picked, a_rest) x p1 := by
  unfold wpX_set
  exact hx_idx0 hx (br_t rfl h)
theorem hx_set1 {j : Nat} {p1 : Int32} (hj : j < 5) (hp : p1 < -6 ∨ ¬ p1 ≤ 6) (h : post (-2) (f_count, f_current, a_weights, a_now, a_next, a_list, a_powers, a_table, a_picked, a_rest)) : wpX_set post (f_count, f_current, a_weights, a_now, a_next, a_list, a_powers, a_table, a_picked, a_rest) (nI j) p1 := by
  unfold wpX_set
  refine hx_idx1 hj (br_f (by decide) ?_)
  by_cases q : p1 < -6
  · exact br_t q h
  · rcases hp with hp | hp
    · exact (q hp).elim
    · exact br_f q (br_f hp h)
theorem hx_set2 {j : Nat} {p1 : Int32} (hj : j < 5) (h1 : ¬ p1 < -6) (h2 : p1 ≤ 6) (h : post (a_weights j) (f_count, 0, upd a_weights j p1, a_now, a_next, a_list, a_powers, a_table, a_picked, a_rest)) : wpX_set post (f_count, f_current, a_weights, a_now, a_next, a_list, a_powers, a_table, a_picked, a_rest) (nI j) p1 := by
  unfold wpX_set
  have i : vp_in (nI j) 5 := vp_in_nI hj (by decide)
  have c : (nI j).toNatClampNeg = j := nI_clamp (by omega)
  refine hx_idx1 hj (br_f (by decide) (br_f h1 (br_t h2 ⟨i, ?_⟩)))
  rw [c]
  exact nm_e ⟨i, nm_e h⟩
variable {pst : Int32 → Prop}
theorem hx_weight0 {x : Int32} (hx : hb_off5 x) (h : pst (-100)) : wpX_weight pst (f_count, f_current, a_weights, a_now, a_next, a_list, a_powers, a_table, a_picked, a_rest) x := by
  unfold wpX_weight
  exact hx_idx0 hx (br_t rfl h)
theorem hx_weight1 {j : Nat} (hj : j < 5) (h : pst (a_weights j)) : wpX_weight pst (f_count, f_current, a_weights, a_now, a_next, a_list, a_powers, a_table, a_picked, a_rest) (nI j) := by
  unfold wpX_weight
  have c : (nI j).toNatClampNeg = j := nI_clamp (by omega)
  refine hx_idx1 hj (br_f (by decide) ⟨vp_in_nI hj (by decide), ?_⟩)
  rw [c]
  exact h
end
section
variable {f_ready : Int32} {f_count : Int32} {f_balances : Int32} {a_weights : Nat → Int32} {a_codes : Nat → Int32} {a_many : Nat → Int32} {a_few : Nat → Int32}
variable {post : Int32 → SY → Prop}
theorem hy_set0 {x p1 : Int32} (hx : hb_off5 x) (h : post (-1) (f_ready, f_count, f_balances, a_weights, a_codes, a_many, a_few)) : wpY_set post (f_ready, f_count, f_balances, a_weights, a_codes, a_many, a_few) x p1 := by
  rcases hx with hx | ⟨j, h1, h2, rfl⟩
  · exact br_t hx h
  · exact br_f (nI_pos h2) (br_f (nI_ge (a := 4) (b := j) (by omega) h2) h)
theorem hy_set1 {j : Nat} {p1 : Int32} (hj : j < 5) (hp : p1 < -6 ∨ ¬ p1 ≤ 6) (h : post (-2) (f_ready, f_count, f_balances, a_weights, a_codes, a_many, a_few)) : wpY_set post (f_ready, f_count, f_balances, a_weights, a_codes, a_many, a_few) (nI j) p1 := by
  refine br_f (nI_pos (by omega)) (br_t (nI_le (a := j) (b := 4) (by omega) (by decide)) ?_)
  by_cases q : p1 < -6
  · exact br_t q h
  · rcases hp with hp | hp
    · exact (q hp).elim
    · exact br_f q (br_f hp h)
theorem hy_set2 {j : Nat} {p1 : Int32} (hj : j < 5) (h1 : ¬ p1 < -6) (h2 : p1 ≤ 6) (h : post (a_weights j) (0, f_count, f_balances, upd a_weights j p1, a_codes, a_many, a_few)) : wpY_set post (f_ready, f_count, f_balances, a_weights, a_codes, a_many, a_few) (nI j) p1 := by
  have i : vp_in (nI j) 5 := vp_in_nI hj (by decide)
  have c : (nI j).toNatClampNeg = j := nI_clamp (by omega)
  refine br_f (nI_pos (by omega)) (br_t (nI_le (a := j) (b := 4) (by omega) (by decide)) (br_f h1 (br_t h2 ⟨i, ?_⟩)))
  rw [c]
  exact nm_e ⟨i, nm_e h⟩
variable {pst : Int32 → Prop}
theorem hy_weight0 {x : Int32} (hx : hb_off5 x) (h : pst (-100)) : wpY_weight pst (f_ready, f_count, f_balances, a_weights, a_codes, a_many, a_few) x := by
  rcases hx with hx | ⟨j, h1, h2, rfl⟩
  · exact br_t hx h
  · exact br_f (nI_pos h2) (br_f (nI_ge (a := 4) (b := j) (by omega) h2) h)
theorem hy_weight1 {j : Nat} (hj : j < 5) (h : pst (a_weights j)) : wpY_weight pst (f_ready, f_count, f_balances, a_weights, a_codes, a_many, a_few) (nI j) := by
  have c : (nI j).toNatClampNeg = j := nI_clamp (by omega)
  refine br_f (nI_pos (by omega)) (br_t (nI_le (a := j) (b := 4) (by omega) (by decide)) ⟨vp_in_nI hj (by decide), ?_⟩)
  rw [c]
  exact h
end
end
section
/-- one row of weights within their bounds; the component's powers; each side's list, where it is marked as up to date, is the list of least balances, and the reference's count of balances is right -/
def i_Rel (_ : Nat) (u : SX) (v : SY) : Prop := match u, v with
  | (f_count, f_current, a_weights, a_now, a_next, a_list, a_powers, a_table, a_picked, a_rest), (g_ready, g_count, g_bal, b_weights, b_codes, _, _) => a_weights = b_weights ∧ hb_Wb a_weights ∧ hb_Pw a_powers ∧ (f_current ≠ 0 → hb_RX (hb_w a_weights) f_count a_list) ∧ (g_ready ≠ 0 → hb_RY (hb_w a_weights) g_count g_bal b_codes)
theorem i_up {k : Nat} {u : SX} {v : SY} (h : i_Rel k u v) : i_Rel (k + 3) u v := h
section
variable {f_count : Int32} {f_current : Int32} {a_weights : Nat → Int32} {a_now : Nat → Int32} {a_next : Nat → Int32} {a_list : Nat → Int32} {a_powers : Nat → Int32} {a_table : Nat → Int32} {a_picked : Nat → Int32} {a_rest : Nat → Int32}
theorem hr_mk {k : Nat} {g_ready g_count g_bal : Int32} {b_codes b_many b_few : Nat → Int32} (hW : hb_Wb a_weights) (hP : hb_Pw a_powers) (hX : f_current ≠ 0 → hb_RX (hb_w a_weights) f_count a_list) (hY : g_ready ≠ 0 → hb_RY (hb_w a_weights) g_count g_bal b_codes) :
    i_Rel k (f_count, f_current, a_weights, a_now, a_next, a_list, a_powers, a_table, a_picked, a_rest) (g_ready, g_count, g_bal, a_weights, b_codes, b_many, b_few) := And.intro rfl (And.intro hW (And.intro hP (And.intro hX hY)))
theorem hr_z {P : Prop} : (0 : Int32) ≠ 0 → P := fun h => (h rfl).elim
end
/-- a related pair, taken apart -/
theorem hr_el {k : Nat} {u : SX} {v : SY} {P : SX → SY → Prop} (I : i_Rel k u v)
    (h : ∀ (f_count f_current : Int32) (a_weights a_now a_next a_list a_powers a_table a_picked a_rest : Nat → Int32) (g_ready g_count g_bal : Int32) (b_codes b_many b_few : Nat → Int32), hb_Wb a_weights → hb_Pw a_powers →
      (f_current ≠ 0 → hb_RX (hb_w a_weights) f_count a_list) → (g_ready ≠ 0 → hb_RY (hb_w a_weights) g_count g_bal b_codes) → P (f_count, f_current, a_weights, a_now, a_next, a_list, a_powers, a_table, a_picked, a_rest) (g_ready, g_count, g_bal, a_weights, b_codes, b_many, b_few)) : P u v := by
  obtain ⟨f_count, f_current, a_weights, a_now, a_next, a_list, a_powers, a_table, a_picked, a_rest⟩ := u
  obtain ⟨g_ready, g_count, g_bal, b_weights, b_codes, b_many, b_few⟩ := v
  obtain ⟨e, hW, hP, hX, hY⟩ := I
  subst e
  exact h f_count f_current a_weights a_now a_next a_list a_powers a_table a_picked a_rest g_ready g_count g_bal b_codes b_many b_few hW hP hX hY
theorem i_vc0 : wpX_init (fun u => wpY_init (fun v => i_Rel 0 u v)) := by
  refine hx_init fun a_powers hP => ?_
  have hW : hb_Wb (fun _ => 0) := by
    intro i _
    show -6 ≤ (0 : Int32).toInt ∧ (0 : Int32).toInt ≤ 6
    decide
  exact And.intro rfl (And.intro hW (And.intro hP (And.intro hr_z hr_z)))
theorem i_vc_set {k : Nat} {u : SX} {v : SY} (I : i_Rel k u v) (hk : k + 3 ≤ 1536) (v1 : Int32) (v2 : Int32) : wpX_set (fun r u' => wpY_set (fun r' v' => r' = r ∧ i_Rel (k + 3) u' v') v v1 v2) u v1 v2 := by
  refine hr_el (P := fun u v => wpX_set (fun r u' => wpY_set (fun r' v' => r' = r ∧ i_Rel (k + 3) u' v') v v1 v2) u v1 v2) I ?_
  intro f_count f_current a_weights a_now a_next a_list a_powers a_table a_picked a_rest g_ready g_count g_bal b_codes b_many b_few hW hP hX hY
  rcases hb_idxc v1 with h5 | ⟨j, hj, rfl⟩
  · exact hx_set0 h5 (hy_set0 h5 ⟨rfl, hr_mk hW hP hX hY⟩)
  · by_cases h1 : v2 < -6
    · exact hx_set1 hj (Or.inl h1) (hy_set1 hj (Or.inl h1) ⟨rfl, hr_mk hW hP hX hY⟩)
    · by_cases h2 : v2 ≤ 6
      · have b1 : -6 ≤ v2.toInt := by
          rw [Int32.lt_iff_toInt_lt, show (-6 : Int32).toInt = -6 from by decide] at h1
          omega
        have b2 : v2.toInt ≤ 6 := by
          rw [Int32.le_iff_toInt_le, show (6 : Int32).toInt = 6 from by decide] at h2
          exact h2
        exact hx_set2 hj h1 h2 (hy_set2 hj h1 h2 ⟨rfl, hr_mk (hb_Wbu hW b1 b2) hP hr_z hr_z⟩)
      · exact hx_set1 hj (Or.inr h2) (hy_set1 hj (Or.inr h2) ⟨rfl, hr_mk hW hP hX hY⟩)
theorem i_vc_sow {k : Nat} {u : SX} {v : SY} (I : i_Rel k u v) (hk : k + 3 ≤ 1536) (v1 : Int32) (v2 : Int32) : wpX_sow (fun r u' => wpY_sow (fun r' v' => r' = r ∧ i_Rel (k + 3) u' v') v v1 v2) u v1 v2 := by
  refine hr_el (P := fun u v => wpX_sow (fun r u' => wpY_sow (fun r' v' => r' = r ∧ i_Rel (k + 3) u' v') v v1 v2) u v1 v2) I ?_
  intro f_count f_current a_weights a_now a_next a_list a_powers a_table a_picked a_rest g_ready g_count g_bal b_codes b_many b_few hW hP hX hY
  by_cases h1 : v1 < 0
  · exact br_t h1 (br_t h1 ⟨rfl, hr_mk hW hP hX hY⟩)
  by_cases h2 : v1 ≤ 12
  · by_cases h3 : v2 < 0
    · exact br_f h1 (br_t h2 (br_t h3 (br_f h1 (br_t h2 (br_t h3 ⟨rfl, hr_mk hW hP hX hY⟩)))))
    by_cases h4 : v2 ≤ 12
    · obtain ⟨p, hp, rfl⟩ := nI_of2 (M := 12) (n := 12) (by decide) h1 h2
      obtain ⟨q, hq, rfl⟩ := nI_of2 (M := 12) (n := 12) (by decide) h3 h4
      obtain ⟨r, b_weights, hb, sX, sY⟩ := hs_l hp hq 5 0 rfl 0 a_weights hW
      refine br_f h1 (br_t h2 (br_f h3 (br_t h4 (Exists.intro 6 (sX _ f_count f_current a_now a_next a_list a_powers a_table a_picked a_rest ?_)))))
      exact br_f h1 (br_t h2 (br_f h3 (br_t h4 (Exists.intro 6 (sY _ g_ready g_count g_bal b_codes b_many b_few ⟨rfl, hr_mk hb hP hr_z hr_z⟩)))))
    · exact br_f h1 (br_t h2 (br_f h3 (br_f h4 (br_f h1 (br_t h2 (br_f h3 (br_f h4 ⟨rfl, hr_mk hW hP hX hY⟩)))))))
  · exact br_f h1 (br_f h2 (br_f h1 (br_f h2 ⟨rfl, hr_mk hW hP hX hY⟩)))
theorem i_vc_weight {k : Nat} {u : SX} {v : SY} (I : i_Rel k u v) (hk : k + 3 ≤ 1536) (v1 : Int32) : wpX_weight (fun r => wpY_weight (fun r' => r' = r ∧ i_Rel (k + 3) u v) v v1) u v1 := by
  refine hr_el (P := fun u v => wpX_weight (fun r => wpY_weight (fun r' => r' = r ∧ i_Rel (k + 3) u v) v v1) u v1) I ?_
  intro f_count f_current a_weights a_now a_next a_list a_powers a_table a_picked a_rest g_ready g_count g_bal b_codes b_many b_few hW hP hX hY
  rcases hb_idxc v1 with h5 | ⟨j, hj, rfl⟩
  · exact hx_weight0 h5 (hy_weight0 h5 ⟨rfl, hr_mk hW hP hX hY⟩)
  · exact hx_weight1 hj (hy_weight1 hj ⟨rfl, hr_mk hW hP hX hY⟩)
theorem i_vc_isBalance {k : Nat} {u : SX} {v : SY} (I : i_Rel k u v) (hk : k + 3 ≤ 1536) (v1 : Int32) : wpX_isBalance (fun r => wpY_isBalance (fun r' => r' = r ∧ i_Rel (k + 3) u v) v v1) u v1 := by
  refine hr_el (P := fun u v => wpX_isBalance (fun r => wpY_isBalance (fun r' => r' = r ∧ i_Rel (k + 3) u v) v v1) u v1) I ?_
  intro f_count f_current a_weights a_now a_next a_list a_powers a_table a_picked a_rest g_ready g_count g_bal b_codes b_many b_few hW hP hX hY
  rcases hb_codec v1 with hb | ⟨c, hc, rfl⟩
  · exact hx_isBalance0 hb (hy_isBalance0 hb ⟨rfl, hr_mk hW hP hX hY⟩)
  · exact hx_isBalance hP hW hc (fun h => hy_isBalance hW hc (fun _ => ⟨rfl, hr_mk hW hP hX hY⟩) (fun n => (n h).elim)) (fun h => hy_isBalance hW hc (fun n => (h n).elim) (fun _ => ⟨rfl, hr_mk hW hP hX hY⟩))
theorem i_vc_isLeast {k : Nat} {u : SX} {v : SY} (I : i_Rel k u v) (hk : k + 3 ≤ 1536) (v1 : Int32) : wpX_isLeast (fun r u' => wpY_isLeast (fun r' v' => r' = r ∧ i_Rel (k + 3) u' v') v v1) u v1 := by
  refine hr_el (P := fun u v => wpX_isLeast (fun r u' => wpY_isLeast (fun r' v' => r' = r ∧ i_Rel (k + 3) u' v') v v1) u v1) I ?_
  intro f_count f_current a_weights a_now a_next a_list a_powers a_table a_picked a_rest g_ready g_count g_bal b_codes b_many b_few hW hP hX hY
  rcases hb_codec v1 with hb | ⟨c, hc, rfl⟩
  · exact hx_isLeast0 hb (hy_isLeast0 hb ⟨rfl, hr_mk hW hP hX hY⟩)
  · refine hx_isLeast hP hW hX hc ?_
    intro f_count f_current a_now a_next a_list hX'
    refine ⟨fun h => hy_isLeast hW hY hc ?_, fun h => hy_isLeast hW hY hc ?_⟩
    · intro g_ready g_count g_bal b_codes hY'
      exact ⟨fun _ => ⟨rfl, hr_mk hW hP (fun _ => hX') (fun _ => hY')⟩, fun n => (n h).elim⟩
    · intro g_ready g_count g_bal b_codes hY'
      exact ⟨fun n => (h n).elim, fun _ => ⟨rfl, hr_mk hW hP (fun _ => hX') (fun _ => hY')⟩⟩
theorem i_vc_least {k : Nat} {u : SX} {v : SY} (I : i_Rel k u v) (hk : k + 3 ≤ 1536) : wpX_least (fun r u' => wpY_least (fun r' v' => r' = r ∧ i_Rel (k + 3) u' v') v) u := by
  refine hr_el (P := fun u v => wpX_least (fun r u' => wpY_least (fun r' v' => r' = r ∧ i_Rel (k + 3) u' v') v) u) I ?_
  intro f_count f_current a_weights a_now a_next a_list a_powers a_table a_picked a_rest g_ready g_count g_bal b_codes b_many b_few hW hP hX hY
  refine hx_least hP hW hX ?_
  intro f_count f_current a_now a_next a_list hX'
  refine hy_least hW hY ?_
  intro g_ready g_count g_bal b_codes hY'
  exact ⟨rfl, hr_mk hW hP (fun _ => hX') (fun _ => hY')⟩
theorem i_vc_code {k : Nat} {u : SX} {v : SY} (I : i_Rel k u v) (hk : k + 3 ≤ 1536) (v1 : Int32) : wpX_code (fun r u' => wpY_code (fun r' v' => r' = r ∧ i_Rel (k + 3) u' v') v v1) u v1 := by
  refine hr_el (P := fun u v => wpX_code (fun r u' => wpY_code (fun r' v' => r' = r ∧ i_Rel (k + 3) u' v') v v1) u v1) I ?_
  intro f_count f_current a_weights a_now a_next a_list a_powers a_table a_picked a_rest g_ready g_count g_bal b_codes b_many b_few hW hP hX hY
  refine hx_code hP hW hX ?_
  intro f_count f_current a_now a_next a_list hX'
  have hn := hX'.2.1
  refine ⟨fun j hj e => hy_code hW hY ?_, fun h => hy_code hW hY ?_⟩
  · intro g_ready g_count g_bal b_codes hY'
    refine ⟨fun i hi e' => ?_, fun n => (n ⟨j, hj, e⟩).elim⟩
    have q : i = j := (nI_eq (by omega) (by omega)).mp (e'.symm.trans e)
    exact ⟨by rw [q], hr_mk hW hP (fun _ => hX') (fun _ => hY')⟩
  · intro g_ready g_count g_bal b_codes hY'
    exact ⟨fun i hi e' => (h ⟨i, hi, e'⟩).elim, fun _ => ⟨rfl, hr_mk hW hP (fun _ => hX') (fun _ => hY')⟩⟩
theorem i_vc_using {k : Nat} {u : SX} {v : SY} (I : i_Rel k u v) (hk : k + 3 ≤ 1536) (v1 : Int32) : wpX_using (fun r u' => wpY_using (fun r' v' => r' = r ∧ i_Rel (k + 3) u' v') v v1) u v1 := by
  refine hr_el (P := fun u v => wpX_using (fun r u' => wpY_using (fun r' v' => r' = r ∧ i_Rel (k + 3) u' v') v v1) u v1) I ?_
  intro f_count f_current a_weights a_now a_next a_list a_powers a_table a_picked a_rest g_ready g_count g_bal b_codes b_many b_few hW hP hX hY
  rcases hb_idxc v1 with h5 | ⟨j, hj, rfl⟩
  · exact hx_using0 h5 (hy_using0 h5 ⟨rfl, hr_mk hW hP hX hY⟩)
  · refine hx_using hP hW hX hj ?_
    intro f_count f_current a_now a_next a_list hX'
    refine hy_using hW hY hj ?_
    intro g_ready g_count g_bal b_codes hY'
    exact ⟨rfl, hr_mk hW hP (fun _ => hX') (fun _ => hY')⟩
theorem i_vc_longest {k : Nat} {u : SX} {v : SY} (I : i_Rel k u v) (hk : k + 3 ≤ 1536) : wpX_longest (fun r u' => wpY_longest (fun r' v' => r' = r ∧ i_Rel (k + 3) u' v') v) u := by
  refine hr_el (P := fun u v => wpX_longest (fun r u' => wpY_longest (fun r' v' => r' = r ∧ i_Rel (k + 3) u' v') v) u) I ?_
  intro f_count f_current a_weights a_now a_next a_list a_powers a_table a_picked a_rest g_ready g_count g_bal b_codes b_many b_few hW hP hX hY
  refine hx_longest hP hW hX ?_
  intro f_count f_current a_now a_next a_list hX'
  refine hy_longest hW hY ?_
  intro g_ready g_count g_bal b_codes hY'
  exact ⟨rfl, hr_mk hW hP (fun _ => hX') (fun _ => hY')⟩
theorem i_vc_balances {k : Nat} {u : SX} {v : SY} (I : i_Rel k u v) (hk : k + 3 ≤ 1536) (v1 : Int32) : wpX_balances (fun r u' => wpY_balances (fun r' => r' = r ∧ i_Rel (k + 3) u' v) v v1) u v1 := by
  refine hr_el (P := fun u v => wpX_balances (fun r u' => wpY_balances (fun r' => r' = r ∧ i_Rel (k + 3) u' v) v v1) u v1) I ?_
  intro f_count f_current a_weights a_now a_next a_list a_powers a_table a_picked a_rest g_ready g_count g_bal b_codes b_many b_few hW hP hX hY
  by_cases h0 : v1 < 0
  · exact br_t h0 (br_t h0 ⟨rfl, hr_mk hW hP hX hY⟩)
  · obtain ⟨n, hn, rfl⟩ := nI_of h0
    by_cases h20 : n ≤ 20
    · exact hx_balances hW h20 fun a_table => hy_balances hW h20 ⟨rfl, hr_mk hW hP hX hY⟩
    · exact br_f h0 (br_f (nI_nlt (a := n) (b := 21) (by omega) hn) (br_f h0 (br_f (nI_ge (a := 20) (b := n) (by omega) hn) ⟨rfl, hr_mk hW hP hX hY⟩)))
theorem i_vc_fewest {k : Nat} {u : SX} {v : SY} (I : i_Rel k u v) (hk : k + 3 ≤ 1536) (v1 : Int32) : wpX_fewest (fun r u' => wpY_fewest (fun r' v' => r' = r ∧ i_Rel (k + 3) u' v') v v1) u v1 := by
  refine hr_el (P := fun u v => wpX_fewest (fun r u' => wpY_fewest (fun r' v' => r' = r ∧ i_Rel (k + 3) u' v') v v1) u v1) I ?_
  intro f_count f_current a_weights a_now a_next a_list a_powers a_table a_picked a_rest g_ready g_count g_bal b_codes b_many b_few hW hP hX hY
  rcases hb_codec v1 with hb | ⟨c, hc, rfl⟩
  · exact hx_fewest0 hb (hy_fewest0 hb ⟨rfl, hr_mk hW hP hX hY⟩)
  · refine hx_fewest hP hW hX hc (fun h => hy_fewest hW hY hc (fun _ => ⟨rfl, hr_mk hW hP hX hY⟩) (fun n => (h n).elim)) ?_
    intro h f_count f_current a_now a_next a_list a_picked a_rest hX'
    refine hy_fewest hW hY hc (fun n => (n h).elim) ?_
    intro _ g_ready g_count g_bal b_codes b_many b_few hY'
    exact ⟨rfl, hr_mk hW hP (fun _ => hX') (fun _ => hY')⟩
theorem i_vc_ways {k : Nat} {u : SX} {v : SY} (I : i_Rel k u v) (hk : k + 3 ≤ 1536) (v1 : Int32) : wpX_ways (fun r u' => wpY_ways (fun r' v' => r' = r ∧ i_Rel (k + 3) u' v') v v1) u v1 := by
  refine hr_el (P := fun u v => wpX_ways (fun r u' => wpY_ways (fun r' v' => r' = r ∧ i_Rel (k + 3) u' v') v v1) u v1) I ?_
  intro f_count f_current a_weights a_now a_next a_list a_powers a_table a_picked a_rest g_ready g_count g_bal b_codes b_many b_few hW hP hX hY
  rcases hb_codec v1 with hb | ⟨c, hc, rfl⟩
  · exact hx_ways0 hb (hy_ways0 hb ⟨rfl, hr_mk hW hP hX hY⟩)
  · refine hx_ways hP hW hX hc (fun h => hy_ways hW hY hc (fun _ => ⟨rfl, hr_mk hW hP hX hY⟩) (fun n => (h n).elim)) ?_
    intro h f_count f_current a_now a_next a_list a_picked a_rest hX'
    refine hy_ways hW hY hc (fun n => (n h).elim) ?_
    intro _ g_ready g_count g_bal b_codes b_many b_few hY'
    exact ⟨rfl, hr_mk hW hP (fun _ => hX') (fun _ => hY')⟩
theorem i_vc_inside {k : Nat} {u : SX} {v : SY} (I : i_Rel k u v) (hk : k + 3 ≤ 1536) (v1 : Int32) : wpX_inside (fun r u' => wpY_inside (fun r' v' => r' = r ∧ i_Rel (k + 3) u' v') v v1) u v1 := by
  refine hr_el (P := fun u v => wpX_inside (fun r u' => wpY_inside (fun r' v' => r' = r ∧ i_Rel (k + 3) u' v') v v1) u v1) I ?_
  intro f_count f_current a_weights a_now a_next a_list a_powers a_table a_picked a_rest g_ready g_count g_bal b_codes b_many b_few hW hP hX hY
  rcases hb_codec v1 with hb | ⟨c, hc, rfl⟩
  · exact hx_inside0 hb (hy_inside0 hb ⟨rfl, hr_mk hW hP hX hY⟩)
  · refine hx_inside hP hW hX hc ?_ ?_
    · intro m hm hl hp f_count f_current a_now a_next a_list hX'
      refine hy_inside hW hY hc ?_ (fun n => (n m hm hp).elim)
      intro m' hm' hl' hp' g_ready g_count g_bal b_codes hY'
      have q : m' = m := by
        rcases Nat.lt_trichotomy m' m with h | h | h
        · exact (hl m' h hp').elim
        · exact h
        · exact (hl' m h hp).elim
      exact ⟨by rw [q], hr_mk hW hP (fun _ => hX') (fun _ => hY')⟩
    · intro hl f_count f_current a_now a_next a_list hX'
      refine hy_inside hW hY hc (fun m hm _ hp => (hl m hm hp).elim) ?_
      intro _ g_ready g_count g_bal b_codes hY'
      exact ⟨rfl, hr_mk hW hP (fun _ => hX') (fun _ => hY')⟩
theorem i_vc_small {k : Nat} {u : SX} {v : SY} (I : i_Rel k u v) (hk : k + 3 ≤ 1536) : wpX_small (fun r => wpY_small (fun r' v' => r' = r ∧ i_Rel (k + 3) u v') v) u := by
  refine hr_el (P := fun u v => wpX_small (fun r => wpY_small (fun r' v' => r' = r ∧ i_Rel (k + 3) u v') v) u) I ?_
  intro f_count f_current a_weights a_now a_next a_list a_powers a_table a_picked a_rest g_ready g_count g_bal b_codes b_many b_few hW hP hX hY
  refine hx_small hP hW ?_
  refine hy_small hW hY ?_
  intro g_ready g_count g_bal b_codes hY'
  exact ⟨rfl, hr_mk hW hP hX (fun _ => hY')⟩
end
