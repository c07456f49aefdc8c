section
/-! pure rows to paste: stores, nI and lN arithmetic, masks, shifts, narrowing, branches by naturals (pk_le, pk_lt, pk_eq), loops (lp1 .. lp16: the measure of the state; rp1 ..: recursion), negatives. Take what you need -/
theorem pk_us {f : Nat → Int32} {k : Nat} {x : Int32} : upd f k x k = x := if_pos rfl
theorem pk_un {f : Nat → Int32} {k j : Nat} {x : Int32} (h : j ≠ k) : upd f k x j = f j := if_neg h
theorem pk_uLs {f : Nat → Int64} {k : Nat} {x : Int64} : vp_updL f k x k = x := if_pos rfl
theorem pk_uLn {f : Nat → Int64} {k j : Nat} {x : Int64} (h : j ≠ k) : vp_updL f k x j = f j := if_neg h
theorem pk_sub {a b : Nat} (h : b ≤ a) : nI a - nI b = nI (a - b) := by
  obtain ⟨c, rfl⟩ : ∃ c, a = c + b := ⟨a - b, by omega⟩
  rw [← nI_add, Int32.add_sub_cancel, Nat.add_sub_cancel]
theorem pk_m1 (n : Nat) : nI (n + 1) + (-1) = nI n := by
  rw [← nI_1, Int32.add_assoc, show (1 : Int32) + (-1) = 0 from rfl, Int32.add_zero]
theorem pk_mul (a b : Nat) : nI a * nI b = nI (a * b) := (Int32.ofNat_mul a b).symm
theorem pk_div {a d : Nat} (ha : a < 2 ^ 31) (h0 : 0 < d) (hd : d < 2 ^ 31) : nI a / nI d = nI (a / d) := by
  apply Int32.toInt_inj.mp
  rw [lg_idiv_nonneg (by rw [nI_toInt ha]; omega) (by rw [nI_toInt hd]; omega), nI_toInt ha, nI_toInt hd, nI_toInt (Nat.lt_of_le_of_lt (Nat.div_le_self a d) ha)]
  first | rfl | exact (Int.natCast_ediv _ _).symm
theorem pk_rem {a d : Nat} (ha : a < 2 ^ 31) (h0 : 0 < d) (hd : d < 2 ^ 31) : nI a - nI a / nI d * nI d = nI (a % d) := by
  rw [pk_div ha h0 hd, pk_mul, pk_sub (Nat.div_mul_le_self a d)]
  exact congrArg nI (by have := Nat.div_add_mod' a d; omega)
theorem pk_sub_toInt {a b : Nat} (ha : a < 2 ^ 30) (hb : b < 2 ^ 30) : (nI a - nI b).toInt = (a : Int) - b := by
  rw [Int32.toInt_sub, nI_toInt (by omega), nI_toInt (by omega)]
  exact Int.bmod_eq_of_le (by omega) (by omega)
theorem pk_sneg {a b : Nat} (hb : b < 2 ^ 30) (h : a < b) : nI a - nI b < 0 := by
  rw [Int32.lt_iff_toInt_lt, pk_sub_toInt (by omega) hb, show (0 : Int32).toInt = 0 from by decide]
  omega
theorem pk_ix (x : Int32) {n : Nat} (hn : n < 2 ^ 31) : x < 0 ∨ nI n ≤ x ∨ ∃ j : Nat, j < n ∧ x = nI j := by
  by_cases h : x < 0
  · exact Or.inl h
  · obtain ⟨j, hj, rfl⟩ := nI_of h
    by_cases h2 : j < n
    · exact Or.inr (Or.inr ⟨j, h2, rfl⟩)
    · exact Or.inr (Or.inl (nI_le (by omega) hj))
theorem pk_le {x y : Int32} {A B : Prop} (a b : Nat) (f : a ≤ b → A) (g : b < a → B) (hx : x = nI a := by rfl) (hy : y = nI b := by rfl) (ha : a < 2 ^ 31 := by omega) (hb : b < 2 ^ 31 := by omega) : (x ≤ y → A) ∧ (¬ x ≤ y → B) := by
  subst hx hy
  rw [nI_leI ha hb]
  exact ⟨f, fun z => g (by omega)⟩
theorem pk_lt {x y : Int32} {A B : Prop} (a b : Nat) (f : a < b → A) (g : b ≤ a → B) (hx : x = nI a := by rfl) (hy : y = nI b := by rfl) (ha : a < 2 ^ 31 := by omega) (hb : b < 2 ^ 31 := by omega) : (x < y → A) ∧ (¬ x < y → B) := by
  subst hx hy
  rw [nI_ltI ha hb]
  exact ⟨f, fun z => g (by omega)⟩
theorem pk_eq {x y : Int32} {A B : Prop} (a b : Nat) (f : a = b → A) (g : a ≠ b → B) (hx : x = nI a := by rfl) (hy : y = nI b := by rfl) (ha : a < 2 ^ 31 := by omega) (hb : b < 2 ^ 31 := by omega) : (x = y → A) ∧ (¬ x = y → B) := by
  subst hx hy
  rw [nI_eq ha hb]
  exact ⟨f, g⟩
theorem pk_in {x : Int32} (n N : Nat) (h : n < N) (hx : x = nI n := by rfl) (hN : N < 2 ^ 31 := by omega) : vp_in x N := by
  subst hx
  exact vp_in_nI h hN
theorem pk_cl {x : Int32} (n : Nat) (hx : x = nI n := by rfl) (h : n < 2 ^ 31 := by omega) : x.toNatClampNeg = n := by
  subst hx
  exact nI_clamp h
theorem pk_tn {n : Nat} (h : n < 2 ^ 32) : (nI n).toBitVec.toNat = n := Nat.mod_eq_of_lt h
theorem pk_and (x : Int32) {m : Int32} (k : Nat) (hm : m.toBitVec.toNat = 2 ^ k - 1) : x &&& m = nI (x.toBitVec.toNat % 2 ^ k) := by
  apply Int32.toBitVec_inj.mp
  apply BitVec.eq_of_toNat_eq
  rw [Int32.toBitVec_and, BitVec.toNat_and, hm, Nat.and_two_pow_sub_one_eq_mod]
  show _ = (BitVec.ofNat 32 _).toNat
  rw [BitVec.toNat_ofNat]
  exact (Nat.mod_eq_of_lt (Nat.lt_of_le_of_lt (Nat.mod_le _ _) x.toBitVec.isLt)).symm
theorem pk_andN {n : Nat} (h : n < 2 ^ 32) {m : Int32} (k : Nat) (hm : m.toBitVec.toNat = 2 ^ k - 1) : nI n &&& m = nI (n % 2 ^ k) := by
  rw [pk_and _ k hm, pk_tn h]
theorem pk_andE (x : Int32) {m : Int32} (k : Nat) (hm : m.toBitVec.toNat = 2 ^ k - 1) : ∃ j : Nat, j < 2 ^ k ∧ x &&& m = nI j := ⟨_, Nat.mod_lt _ (Nat.two_pow_pos k), pk_and x k hm⟩
theorem pk_andIn (x : Int32) {m : Int32} (k : Nat) (hm : m.toBitVec.toNat = 2 ^ k - 1) (hk : k ≤ 30) : vp_in (x &&& m) (2 ^ k) := by
  obtain ⟨j, hj, e⟩ := pk_andE x k hm
  rw [e]
  exact vp_in_nI hj (Nat.lt_of_le_of_lt (Nat.pow_le_pow_right (by decide) hk) (by decide))
theorem pk_shl (a s : Int32) (k : Nat) (hs : (s.toBitVec.smod 32).toNat = k) : (a <<< s).toBitVec.toNat = a.toBitVec.toNat * 2 ^ k % 2 ^ 32 := by
  show (a.toBitVec <<< (s.toBitVec.smod 32).toNat).toNat = _
  rw [hs, BitVec.toNat_shiftLeft, Nat.shiftLeft_eq]
theorem pk_shlN {n : Nat} (s : Int32) (k : Nat) (hs : (s.toBitVec.smod 32).toNat = k) (h : n * 2 ^ k < 2 ^ 32) : nI n <<< s = nI (n * 2 ^ k) := by
  apply Int32.toBitVec_inj.mp
  apply BitVec.eq_of_toNat_eq
  have hn : n < 2 ^ 32 := Nat.lt_of_le_of_lt (Nat.le_mul_of_pos_right n (Nat.two_pow_pos k)) h
  rw [pk_shl _ _ k hs, pk_tn hn, pk_tn h, Nat.mod_eq_of_lt h]
theorem pk_shr (a s : Int32) (k : Nat) (hs : (s.toBitVec.smod 32).toNat = k) : (a >>> s).toInt = a.toInt >>> k := by
  show (a.toBitVec.sshiftRight (s.toBitVec.smod 32).toNat).toInt = _
  rw [hs, BitVec.toInt_sshiftRight]
  rfl
theorem pk_shrN {n : Nat} (h : n < 2 ^ 31) (s : Int32) (k : Nat) (hs : (s.toBitVec.smod 32).toNat = k) : nI n >>> s = nI (n / 2 ^ k) := by
  apply Int32.toInt_inj.mp
  have h2 : n / 2 ^ k ≤ n := Nat.div_le_self _ _
  rw [pk_shr _ _ k hs, nI_toInt h, nI_toInt (by omega), Int.shiftRight_eq_div_pow]
  rfl
theorem pk_ushr (x s : Int32) (k : Nat) (hs : ((s.toUInt32 &&& Int32.toUInt32 31).toBitVec % 32).toNat = k) : (x.toUInt32 >>> (s.toUInt32 &&& Int32.toUInt32 31)).toInt32.toBitVec.toNat = x.toBitVec.toNat / 2 ^ k := by
  have e : (x.toUInt32 >>> (s.toUInt32 &&& Int32.toUInt32 31)).toInt32.toBitVec = x.toBitVec >>> k := by
    rw [← hs]
    exact UInt32.toBitVec_shiftRight _ _
  rw [e, BitVec.toNat_ushiftRight, Nat.shiftRight_eq_div_pow]
theorem pk_ushrN {n : Nat} (hn : n < 2 ^ 32) (s : Int32) (k : Nat) (hs : ((s.toUInt32 &&& Int32.toUInt32 31).toBitVec % 32).toNat = k) : ((nI n).toUInt32 >>> (s.toUInt32 &&& Int32.toUInt32 31)).toInt32 = nI (n / 2 ^ k) := by
  apply Int32.toBitVec_inj.mp
  apply BitVec.eq_of_toNat_eq
  rw [pk_ushr _ s k hs, pk_tn hn, pk_tn (Nat.lt_of_le_of_lt (Nat.div_le_self _ _) hn)]
/-! ===== Int32 by its bits: bt x i ===== -/
def bt (x : Int32) (i : Nat) : Bool := x.toBitVec.getLsbD i
theorem b_ext {x y : Int32} (h : ∀ i, i < 32 → bt x i = bt y i) : x = y := Int32.toBitVec_inj.mp (BitVec.eq_of_getLsbD_eq (fun i hi => h i hi))
theorem b_or (x y : Int32) (i : Nat) : bt (x ||| y) i = (bt x i || bt y i) := by unfold bt; rw [Int32.toBitVec_or, BitVec.getLsbD_or]
theorem b_and (x y : Int32) (i : Nat) : bt (x &&& y) i = (bt x i && bt y i) := by unfold bt; rw [Int32.toBitVec_and, BitVec.getLsbD_and]
theorem b_xor (x y : Int32) (i : Nat) : bt (x ^^^ y) i = (bt x i ^^ bt y i) := by unfold bt; rw [Int32.toBitVec_xor, BitVec.getLsbD_xor]
theorem b_big {x : Int32} {i : Nat} (h : 32 ≤ i) : bt x i = false := BitVec.getLsbD_of_ge _ _ h
theorem b_255 (i : Nat) : bt 255 i = decide (i < 8) := by
  rcases Nat.lt_or_ge i 32 with h | h
  · exact (by decide +kernel : ∀ i, i < 32 → bt 255 i = decide (i < 8)) i h
  · rw [b_big h, decide_eq_false (by omega)]
theorem b_65535 (i : Nat) : bt 65535 i = decide (i < 16) := by
  rcases Nat.lt_or_ge i 32 with h | h
  · exact (by decide +kernel : ∀ i, i < 32 → bt 65535 i = decide (i < 16)) i h
  · rw [b_big h, decide_eq_false (by omega)]
theorem b_m1 : ∀ i, i < 32 → bt (-1) i = true := by decide +kernel
theorem b_0 (i : Nat) : bt 0 i = false := BitVec.getLsbD_zero
theorem s_l : ∀ n, n < 32 → ((nI n &&& 31).toBitVec.smod 32).toNat = n := by decide +kernel
theorem s_u : ∀ n, n < 32 → (((nI n).toUInt32 &&& Int32.toUInt32 31).toBitVec % 32).toNat = n := by decide +kernel
theorem b_shl (n : Nat) (hn : n < 32) (x : Int32) {i : Nat} (hi : i < 32) : bt (x <<< (nI n &&& 31)) i = (decide (n ≤ i) && bt x (i - n)) := by
  unfold bt
  rw [Int32.toBitVec_shiftLeft]
  show (x.toBitVec <<< ((nI n &&& 31).toBitVec.smod 32).toNat).getLsbD i = _
  rw [s_l n hn, BitVec.getLsbD_shiftLeft]
  rcases Nat.lt_or_ge i n with h | h
  · simp [h, Nat.not_le.mpr h]
  · simp [hi, h, Nat.not_lt.mpr h]
theorem b_ushr (n : Nat) (hn : n < 32) (x : Int32) (i : Nat) : bt ((x.toUInt32 >>> ((nI n).toUInt32 &&& Int32.toUInt32 31)).toInt32) i = bt x (n + i) := by
  show (x.toUInt32 >>> ((nI n).toUInt32 &&& Int32.toUInt32 31)).toBitVec.getLsbD i = x.toUInt32.toBitVec.getLsbD (n + i)
  rw [UInt32.toBitVec_shiftRight]
  show (x.toUInt32.toBitVec >>> (((nI n).toUInt32 &&& Int32.toUInt32 31).toBitVec % 32).toNat).getLsbD i = _
  rw [s_u n hn, BitVec.getLsbD_ushiftRight]
theorem b_sshr (n : Nat) (hn : n < 32) (x : Int32) {i : Nat} (hi : i < 32) : bt (x >>> (nI n &&& 31)) i = if n + i < 32 then bt x (n + i) else bt x 31 := by
  unfold bt
  rw [Int32.toBitVec_shiftRight]
  show (x.toBitVec.sshiftRight ((nI n &&& 31).toBitVec.smod 32).toNat).getLsbD i = _
  rw [s_l n hn, BitVec.getLsbD_sshiftRight, BitVec.msb_eq_getLsbD_last]
  simp [hi]
end
section
/-! words as numbers with a leading 1: a letter more is 2w + l -/
def ld_rn (d : Nat → Nat → Nat) (s : Nat) (w : Nat) : Nat :=
  if h : w ≤ 1 then s else d (ld_rn d s (w / 2)) (w % 2)
termination_by w
decreasing_by omega
theorem ld_rnD (d : Nat → Nat → Nat) (s w : Nat) (hw : 2 ≤ w) : ld_rn d s w = d (ld_rn d s (w / 2)) (w % 2) := by
  conv => lhs; rw [ld_rn]
  exact dif_neg (by omega)
theorem ld_rn1 (d : Nat → Nat → Nat) (s : Nat) : ld_rn d s 1 = s := by
  rw [ld_rn]
  exact dif_pos (by decide)
theorem ld_rnS (d : Nat → Nat → Nat) (s w l : Nat) (hw : 1 ≤ w) (hl : l < 2) : ld_rn d s (2 * w + l) = d (ld_rn d s w) l := by
  rw [ld_rnD d s (2 * w + l) (by omega), show (2 * w + l) / 2 = w from by omega, show (2 * w + l) % 2 = l from by omega]
theorem ld_ind {P : Nat → Prop} (h1 : P 1) (hs : ∀ w l, 1 ≤ w → l < 2 → P w → P (2 * w + l)) : ∀ w, 1 ≤ w → P w := by
  intro w
  induction w using Nat.strongRecOn with
  | _ w ih =>
    intro hw
    by_cases h : w = 1
    · subst h; exact h1
    · have z := hs (w / 2) (w % 2) (by omega) (by omega) (ih (w / 2) (by omega) (by omega))
      rw [show 2 * (w / 2) + w % 2 = w from by omega] at z
      exact z
def ld_cat (w : Nat) (v : Nat) : Nat :=
  if h : v ≤ 1 then w else 2 * ld_cat w (v / 2) + v % 2
termination_by v
decreasing_by omega
theorem ld_cat1 (w : Nat) : ld_cat w 1 = w := by
  rw [ld_cat]
  exact dif_pos (by decide)
theorem ld_catD (w v : Nat) (hv : 2 ≤ v) : ld_cat w v = 2 * ld_cat w (v / 2) + v % 2 := by
  conv => lhs; rw [ld_cat]
  exact dif_neg (by omega)
theorem ld_catS (w v l : Nat) (hv : 1 ≤ v) (hl : l < 2) : ld_cat w (2 * v + l) = 2 * ld_cat w v + l := by
  rw [ld_catD w (2 * v + l) (by omega), show (2 * v + l) / 2 = v from by omega, show (2 * v + l) % 2 = l from by omega]
theorem ld_cat_pos {w : Nat} (hw : 1 ≤ w) : ∀ v, 1 ≤ v → 1 ≤ ld_cat w v :=
  ld_ind (by rw [ld_cat1]; exact hw) (fun v l hv hl ih => by rw [ld_catS w v l hv hl]; omega)
theorem ld_rn_cat (d : Nat → Nat → Nat) (s : Nat) {w : Nat} (hw : 1 ≤ w) : ∀ v, 1 ≤ v → ld_rn d s (ld_cat w v) = ld_rn d (ld_rn d s w) v :=
  ld_ind (by rw [ld_cat1, ld_rn1]) (fun v l hv hl ih => by
    rw [ld_catS w v l hv hl, ld_rnS _ _ _ _ (ld_cat_pos hw v hv) hl, ld_rnS _ _ _ _ hv hl, ih])
theorem ld_cat_eq (w : Nat) : ∀ m x, x < 2 ^ m → ld_cat w (2 ^ m + x) = w * 2 ^ m + x := by
  intro m
  induction m with
  | zero =>
    intro x hx
    have : x = 0 := by simp at hx; exact hx
    subst this
    show ld_cat w 1 = w * 1 + 0
    rw [ld_cat1]; omega
  | succ m ih =>
    intro x hx
    rw [Nat.pow_succ] at hx
    have h2 := ih (x / 2) (by omega)
    have hp := Nat.two_pow_pos m
    rw [show 2 ^ (m + 1) + x = 2 * (2 ^ m + x / 2) + x % 2 from by rw [Nat.pow_succ]; omega, ld_catS _ _ _ (by omega) (by omega), h2, Nat.pow_succ, ← Nat.mul_assoc]
    generalize w * 2 ^ m = y
    omega
theorem ld_split (w m : Nat) : ld_cat (w / 2 ^ m) (2 ^ m + w % 2 ^ m) = w := by
  rw [ld_cat_eq _ m _ (Nat.mod_lt _ (Nat.two_pow_pos m))]
  exact Nat.div_add_mod' w (2 ^ m)
theorem ld_cat_lt {w a : Nat} (hw : w < 2 ^ a) : ∀ v, 1 ≤ v → ∀ c, v < 2 ^ (c + 1) → ld_cat w v < 2 ^ (a + c) := by
  refine ld_ind (P := fun v => ∀ c, v < 2 ^ (c + 1) → ld_cat w v < 2 ^ (a + c)) ?_ ?_
  · intro c _
    rw [ld_cat1]
    exact Nat.lt_of_lt_of_le hw (Nat.pow_le_pow_right (by decide) (by omega))
  · intro v l hv hl ih c hc
    rw [ld_catS w v l hv hl]
    cases c with
    | zero => simp at hc; omega
    | succ c =>
      rw [Nat.pow_succ] at hc
      have := ih c (by omega)
      rw [show a + (c + 1) = (a + c) + 1 from rfl, Nat.pow_succ]
      omega
theorem ld_rn_lt {d : Nat → Nat → Nat} {N s : Nat} (hd : ∀ s l, s < N → l < 2 → d s l < N) (hs : s < N) : ∀ w, 1 ≤ w → ld_rn d s w < N :=
  ld_ind (by rw [ld_rn1]; exact hs) (fun w l hw hl ih => by rw [ld_rnS _ _ _ _ hw hl]; exact hd _ _ ih hl)
theorem ld_rn2 (d : Nat → Nat → Nat) (s l : Nat) (hl : l < 2) : ld_rn d s (2 + l) = d s l := by
  have z := ld_rnS d s 1 l (by decide) hl
  rw [ld_rn1] at z
  exact z
theorem ld_first : ∀ w, 1 ≤ w → w = 1 ∨ ∃ l v m, l < 2 ∧ 2 ^ m ≤ v ∧ v < 2 ^ (m + 1) ∧ 2 ^ (m + 1) ≤ w ∧ w < 2 ^ (m + 2) ∧ ld_cat (2 + l) v = w := by
  refine ld_ind (Or.inl rfl) ?_
  intro w l hw hl ih
  rcases ih with rfl | ⟨a, v, m, ha, h1, h2, h3, h4, h5⟩
  · exact Or.inr ⟨l, 1, 0, hl, by decide, by decide, by simp, by simp; omega, by rw [ld_cat1]⟩
  · have hp := Nat.two_pow_pos m
    refine Or.inr ⟨a, 2 * v + l, m + 1, ha, ?_, ?_, ?_, ?_, ?_⟩
    · rw [Nat.pow_succ]; omega
    · rw [Nat.pow_succ] at h2 ⊢; omega
    · rw [Nat.pow_succ] at h3 ⊢; omega
    · rw [show m + 1 + 2 = (m + 2) + 1 from rfl, Nat.pow_succ]; omega
    · rw [ld_catS _ _ _ (by omega) hl, h5]
/-! pigeons -/
def ld_up (f : Nat → Nat) (k x : Nat) : Nat → Nat := fun j => if j = k then x else f j
theorem ld_ups (f : Nat → Nat) (k x : Nat) : ld_up f k x k = x := if_pos rfl
theorem ld_upn (f : Nat → Nat) {k j : Nat} (x : Nat) (h : j ≠ k) : ld_up f k x j = f j := if_neg h
theorem ld_pig : ∀ (N : Nat) (f : Nat → Nat), (∀ i, i ≤ N → f i < N) → ∃ i j, i < j ∧ j ≤ N ∧ f i = f j := by
  intro N
  induction N with
  | zero => intro f h; exact absurd (h 0 (Nat.le_refl 0)) (Nat.not_lt_zero _)
  | succ N ih =>
    intro f h
    by_cases hx : ∃ i, i ≤ N ∧ f i = f (N + 1)
    · obtain ⟨i, hi, e⟩ := hx
      exact ⟨i, N + 1, by omega, Nat.le_refl _, e⟩
    · have hn : ∀ i, i ≤ N → f i ≠ f (N + 1) := fun i hi e => hx ⟨i, hi, e⟩
      have hl := h (N + 1) (Nat.le_refl _)
      obtain ⟨i, j, hij, hj, e⟩ := ih (fun i => if f i = N then f (N + 1) else f i) (by
        intro i hi
        have h1 := h i (by omega)
        have h2 := hn i hi
        show (if f i = N then f (N + 1) else f i) < N
        by_cases z : f i = N
        · rw [if_pos z]; omega
        · rw [if_neg z]; omega)
      have hi2 := hn i (by omega)
      have hj2 := hn j hj
      replace e : (if f i = N then f (N + 1) else f i) = (if f j = N then f (N + 1) else f j) := e
      refine ⟨i, j, hij, by omega, ?_⟩
      by_cases z : f i = N
      · by_cases y : f j = N
        · rw [z, y]
        · rw [if_pos z, if_neg y] at e; exact absurd e.symm hj2
      · by_cases y : f j = N
        · rw [if_neg z, if_pos y] at e; exact absurd e hi2
        · rw [if_neg z, if_neg y] at e; exact e
/-- different numbers below M, and one more: there is room -/
theorem ld_inj_lt {M e c : Nat} {q : Nat → Nat} (hq : ∀ i, i < e → q i < M) (hi : ∀ i j, i < j → j < e → q i ≠ q j) (hc : c < M) (hn : ∀ i, i < e → q i ≠ c) : e < M := by
  rcases Nat.lt_or_ge e M with h | h
  · exact h
  · obtain ⟨i, j, hij, hj, e2⟩ := ld_pig M (ld_up q M c) (by
      intro i him
      by_cases z : i = M
      · subst z; rw [ld_ups]; exact hc
      · rw [ld_upn _ _ z]; exact hq i (by omega))
    rw [ld_upn _ _ (show i ≠ M by omega)] at e2
    by_cases z : j = M
    · subst z; rw [ld_ups] at e2; exact absurd e2 (hn i (by omega))
    · rw [ld_upn _ _ z] at e2; exact absurd e2 (hi i j hij (by omega))
/-- if each of n things has a place below e, no place for two: n ≤ e -/
theorem ld_places {n e : Nat} (R : Nat → Nat → Prop) (h : ∀ r, r < n → ∃ k, k < e ∧ R r k) (hu : ∀ r r' k, r < r' → r' < n → R r k → R r' k → False) : n ≤ e := by
  rcases Nat.lt_or_ge e n with hl | hg
  · obtain ⟨i, j, hij, hj, e2⟩ := ld_pig e (fun r => if hr : r < n then Classical.choose (h r hr) else 0) (by
      intro i hi
      have hr : i < n := by omega
      show (if hr : i < n then Classical.choose (h i hr) else 0) < e
      rw [dif_pos hr]
      exact (Classical.choose_spec (h i hr)).1)
    have hi : i < n := by omega
    have hj' : j < n := by omega
    replace e2 : (if hr : i < n then Classical.choose (h i hr) else 0) = (if hr : j < n then Classical.choose (h j hr) else 0) := e2
    rw [dif_pos hi, dif_pos hj'] at e2
    have a := (Classical.choose_spec (h i hi)).2
    have b := (Classical.choose_spec (h j hj')).2
    rw [← e2] at b
    exact (hu i j _ hij hj' a b).elim
  · exact hg
end
section
/-! states that no word tells apart; N states need no longer words than N - 1 letters -/
def ld_eq (d : Nat → Nat → Nat) (g : Nat → Int32) (s t : Nat) : Prop := ∀ w, 1 ≤ w → g (ld_rn d s w) = g (ld_rn d t w)
def ld_eqk (d : Nat → Nat → Nat) (g : Nat → Int32) (k s t : Nat) : Prop := ∀ w, 1 ≤ w → w < 2 ^ (k + 1) → g (ld_rn d s w) = g (ld_rn d t w)
section
variable {d : Nat → Nat → Nat} {g : Nat → Int32} {N : Nat}
theorem ld_eq_rfl (s : Nat) : ld_eq d g s s := fun _ _ => rfl
theorem ld_eq_sym {s t : Nat} (h : ld_eq d g s t) : ld_eq d g t s := fun w hw => (h w hw).symm
theorem ld_eq_tr {s t r : Nat} (h : ld_eq d g s t) (h' : ld_eq d g t r) : ld_eq d g s r := fun w hw => (h w hw).trans (h' w hw)
theorem ld_eq_g {s t : Nat} (h : ld_eq d g s t) : g s = g t := by
  have z := h 1 (Nat.le_refl 1)
  rw [ld_rn1, ld_rn1] at z
  exact z
theorem ld_eq_rn {s t : Nat} (h : ld_eq d g s t) {w : Nat} (hw : 1 ≤ w) : ld_eq d g (ld_rn d s w) (ld_rn d t w) := by
  intro v hv
  rw [← ld_rn_cat d s hw v hv, ← ld_rn_cat d t hw v hv]
  exact h _ (ld_cat_pos hw v hv)
theorem ld_eq_d {s t l : Nat} (h : ld_eq d g s t) (hl : l < 2) : ld_eq d g (d s l) (d t l) := by
  have z := ld_eq_rn h (w := 2 + l) (by omega)
  rw [ld_rn2 d s l hl, ld_rn2 d t l hl] at z
  exact z
theorem ld_eqk_S {k s t : Nat} : ld_eqk d g (k + 1) s t ↔ (g s = g t ∧ ∀ l, l < 2 → ld_eqk d g k (d s l) (d t l)) := by
  constructor
  · intro h
    constructor
    · have z := h 1 (Nat.le_refl 1) (Nat.one_lt_two_pow (by omega))
      rw [ld_rn1, ld_rn1] at z
      exact z
    · intro l hl v hv hvk
      have z := h (ld_cat (2 + l) v) (ld_cat_pos (by omega) v hv) (by
        have := ld_cat_lt (w := 2 + l) (a := 2) (by omega) v hv k hvk
        rw [show k + 1 + 1 = 2 + k from by omega]; exact this)
      rw [ld_rn_cat d s (by omega) v hv, ld_rn_cat d t (by omega) v hv, ld_rn2 d s l hl, ld_rn2 d t l hl] at z
      exact z
  · rintro ⟨h0, h⟩ w hw hwk
    rcases ld_first w hw with rfl | ⟨l, v, m, hl, h1, h2, h3, h4, h5⟩
    · rw [ld_rn1, ld_rn1]; exact h0
    · have hp := Nat.two_pow_pos m
      have hm : m + 1 < k + 1 + 1 := (Nat.pow_lt_pow_iff_right (by decide : 1 < 2)).mp (Nat.lt_of_le_of_lt h3 hwk)
      have z := h l hl v (by omega) (Nat.lt_of_lt_of_le h2 (Nat.pow_le_pow_right (by decide) (by omega)))
      rw [← h5, ld_rn_cat d s (by omega) v (by omega), ld_rn_cat d t (by omega) v (by omega), ld_rn2 d s l hl, ld_rn2 d t l hl]
      exact z
theorem ld_eqk_m {k j s t : Nat} (h : ld_eqk d g k s t) (hj : j ≤ k) : ld_eqk d g j s t :=
  fun w hw hk => h w hw (Nat.lt_of_lt_of_le hk (Nat.pow_le_pow_right (by decide) (by omega)))
def ld_stab (d : Nat → Nat → Nat) (g : Nat → Int32) (N k : Nat) : Prop := ∀ s t, s < N → t < N → ld_eqk d g k s t → ld_eqk d g (k + 1) s t
theorem ld_stab_up (hd : ∀ s l, s < N → l < 2 → d s l < N) {k : Nat} (h : ld_stab d g N k) : ∀ j s t, s < N → t < N → ld_eqk d g k s t → ld_eqk d g (k + j) s t := by
  intro j
  induction j with
  | zero => intro s t _ _ z; exact z
  | succ j ih =>
    intro s t hs ht z
    have z1 := ld_eqk_S.mp (h s t hs ht z)
    rw [← Nat.add_assoc]
    exact ld_eqk_S.mpr ⟨z1.1, fun l hl => ih _ _ (hd s l hs hl) (hd t l ht hl) (z1.2 l hl)⟩
theorem ld_chain {s0 : Nat} (h0 : s0 < N) : ∀ k, (∀ j, j < k → ¬ ld_stab d g N j) → ∃ f : Nat → Nat, (∀ i, i ≤ k → f i < N) ∧ ∀ i j, i < j → j ≤ k → ¬ ld_eqk d g k (f i) (f j) := by
  intro k
  induction k with
  | zero => intro _; exact ⟨fun _ => s0, fun _ _ => h0, fun i j h1 h2 => by omega⟩
  | succ k ih =>
    intro hns
    obtain ⟨f, hf, hd⟩ := ih (fun j hj => hns j (by omega))
    have key : ∀ x, x < N → (∀ i, i ≤ k → ¬ ld_eqk d g (k + 1) (f i) x) → ∃ f : Nat → Nat, (∀ i, i ≤ k + 1 → f i < N) ∧ ∀ i j, i < j → j ≤ k + 1 → ¬ ld_eqk d g (k + 1) (f i) (f j) := by
      intro x hx hn
      refine ⟨ld_up f (k + 1) x, fun i hi => ?_, fun i j hij hj => ?_⟩
      · by_cases z : i = k + 1
        · subst z; rw [ld_ups]; exact hx
        · rw [ld_upn _ _ z]; exact hf i (by omega)
      · rw [ld_upn _ _ (show i ≠ k + 1 by omega)]
        by_cases z : j = k + 1
        · subst z; rw [ld_ups]; exact hn i (by omega)
        · rw [ld_upn _ _ z]
          exact fun y => hd i j hij (by omega) (ld_eqk_m y (by omega))
    by_cases hex : ∃ s t, s < N ∧ t < N ∧ ld_eqk d g k s t ∧ ¬ ld_eqk d g (k + 1) s t
    · obtain ⟨s, t, hs, ht, e, ne⟩ := hex
      by_cases h1 : ∃ i, i ≤ k ∧ ld_eqk d g (k + 1) (f i) s
      · by_cases h2 : ∃ i, i ≤ k ∧ ld_eqk d g (k + 1) (f i) t
        · obtain ⟨i, hi, ei⟩ := h1
          obtain ⟨j, hj, ej⟩ := h2
          have eij : ld_eqk d g k (f i) (f j) := fun w hw hk =>
            ((ld_eqk_m ei (by omega) w hw hk).trans (e w hw hk)).trans (ld_eqk_m ej (Nat.le_succ k) w hw hk).symm
          have hij : i = j := by
            rcases Nat.lt_trichotomy i j with z | z | z
            · exact absurd eij (hd i j z hj)
            · exact z
            · exact absurd (fun w hw hk => (eij w hw hk).symm) (hd j i z hi)
          subst hij
          exact absurd (fun w hw hk => (ei w hw hk).symm.trans (ej w hw hk)) ne
        · exact key t ht (fun i hi z => h2 ⟨i, hi, z⟩)
      · exact key s hs (fun i hi z => h1 ⟨i, hi, z⟩)
    · refine absurd ?_ (hns k (by omega))
      intro s t hs ht e
      exact Classical.byContradiction fun z => hex ⟨s, t, hs, ht, e, z⟩
theorem ld_moore (hd : ∀ s l, s < N → l < 2 → d s l < N) {s t : Nat} (hs : s < N) (ht : t < N) (h : ∀ w, 1 ≤ w → w < 2 ^ N → g (ld_rn d s w) = g (ld_rn d t w)) : ld_eq d g s t := by
  have hst : ∃ k, k < N ∧ ld_stab d g N k := by
    refine Classical.byContradiction fun hn => ?_
    obtain ⟨f, hf, hne⟩ := ld_chain (d := d) (g := g) hs N (fun j hj z => hn ⟨j, hj, z⟩)
    obtain ⟨i, j, hij, hj, e⟩ := ld_pig N f hf
    refine hne i j hij hj ?_
    rw [e]
    exact fun _ _ _ => rfl
  obtain ⟨k, hk, hst⟩ := hst
  have h1 : ld_eqk d g k s t := fun w hw hwk => h w hw (Nat.lt_of_lt_of_le hwk (Nat.pow_le_pow_right (by decide) (by omega)))
  intro w hw
  refine ld_stab_up hd hst w s t hs ht h1 w hw ?_
  exact Nat.lt_of_lt_of_le (Nat.lt_two_pow_self (n := w)) (Nat.pow_le_pow_right (by decide) (by omega))
end
/-- two machines, of n and of seven states, side by side -/
theorem ld_union {e d : Nat → Nat → Nat} {c g : Nat → Int32} {n r s : Nat} (he : ∀ r l, r < n → l < 2 → e r l < n) (hd : ∀ s l, s < 7 → l < 2 → d s l < 7) (hr : r < n) (hs : s < 7)
    (h : ∀ w, 1 ≤ w → w < 2 ^ (n + 7) → c (ld_rn e r w) = g (ld_rn d s w)) : ∀ w, 1 ≤ w → c (ld_rn e r w) = g (ld_rn d s w) := by
  let D : Nat → Nat → Nat := fun x l => if x < n then e x l else n + d (x - n) l
  let G : Nat → Int32 := fun x => if x < n then c x else g (x - n)
  have hD : ∀ x l, x < n + 7 → l < 2 → D x l < n + 7 := by
    intro x l hx hl
    show (if x < n then e x l else n + d (x - n) l) < n + 7
    by_cases z : x < n
    · rw [if_pos z]; have := he x l z hl; omega
    · rw [if_neg z]; have := hd (x - n) l (by omega) hl; omega
  have h1 : ∀ w, 1 ≤ w → ld_rn D r w = ld_rn e r w ∧ ld_rn e r w < n := by
    refine ld_ind ?_ ?_
    · rw [ld_rn1, ld_rn1]; exact ⟨rfl, hr⟩
    · intro w l hw hl ih
      rw [ld_rnS _ _ _ _ hw hl, ld_rnS _ _ _ _ hw hl, ih.1]
      exact ⟨if_pos ih.2, he _ _ ih.2 hl⟩
  have h2 : ∀ w, 1 ≤ w → ld_rn D (n + s) w = n + ld_rn d s w ∧ ld_rn d s w < 7 := by
    refine ld_ind ?_ ?_
    · rw [ld_rn1, ld_rn1]; exact ⟨rfl, hs⟩
    · intro w l hw hl ih
      rw [ld_rnS _ _ _ _ hw hl, ld_rnS _ _ _ _ hw hl, ih.1]
      refine ⟨?_, hd _ _ ih.2 hl⟩
      show (if n + ld_rn d s w < n then e (n + ld_rn d s w) l else n + d (n + ld_rn d s w - n) l) = _
      rw [if_neg (by omega), show n + ld_rn d s w - n = ld_rn d s w from by omega]
  have g1 : ∀ w, 1 ≤ w → G (ld_rn D r w) = c (ld_rn e r w) := by
    intro w hw
    rw [(h1 w hw).1]
    exact if_pos (h1 w hw).2
  have g2 : ∀ w, 1 ≤ w → G (ld_rn D (n + s) w) = g (ld_rn d s w) := by
    intro w hw
    rw [(h2 w hw).1]
    show (if n + ld_rn d s w < n then c (n + ld_rn d s w) else g (n + ld_rn d s w - n)) = _
    rw [if_neg (by omega), show n + ld_rn d s w - n = ld_rn d s w from by omega]
  have key := ld_moore (d := D) (g := G) (N := n + 7) hD (s := r) (t := n + s) (by omega) (by omega) (fun w hw hk => by
    rw [g1 w hw, g2 w hw]; exact h w hw hk)
  intro w hw
  have z := key w hw
  rw [g1 w hw, g2 w hw] at z
  exact z
end
section
/-! a search by breadth over nodes, each with the first word that reaches it: k is the entry whose letter l comes next, e the end -/
def ld_bf (st : Nat → Nat → Nat) (p0 k l e : Nat) (q w : Nat → Nat) : Prop :=
  (1 ≤ e ∧ q 0 = p0 ∧ w 0 = 1) ∧
  (∀ j, j < e → 1 ≤ w j ∧ w j < 2 ^ (j + 1) ∧ ld_rn st p0 (w j) = q j) ∧
  (∀ i j, i < j → j < e → q i ≠ q j ∧ w i < w j) ∧
  (k < e → ∀ j, j < e → w j < 2 * w k + l) ∧
  (∀ j m, j < e → m < 2 → 2 * j + m < 2 * k + l → ∃ i, i < e ∧ q i = st (q j) m ∧ w i ≤ 2 * w j + m)
section
variable {st : Nat → Nat → Nat} {p0 k l e : Nat} {q w : Nat → Nat}
theorem ld_bf0 (hq : q 0 = p0) (hw : w 0 = 1) : ld_bf st p0 0 0 1 q w := by
  refine And.intro ⟨Nat.le_refl 1, hq, hw⟩ ⟨?_, ?_, ?_, ?_⟩
  · intro j hj
    have : j = 0 := by omega
    subst this
    rw [hw, ld_rn1]
    exact ⟨by decide, by decide, hq.symm⟩
  · intro i j h1 h2; omega
  · intro _ j hj
    have : j = 0 := by omega
    subst this
    omega
  · intro j m _ _ h; omega
theorem ld_bf_skip (h : ld_bf st p0 k l e q w) (hk : k < e) (hl : l < 2) {i : Nat} (hi : i < e) (hc : q i = st (q k) l) : ld_bf st p0 k (l + 1) e q w := by
  obtain ⟨h1, h2, h3, h4, h5⟩ := h
  refine And.intro h1 ⟨h2, h3, fun a j hj => ?_, fun j m hj hm hlt => ?_⟩
  · have := h4 a j hj; omega
  · by_cases z : 2 * j + m < 2 * k + l
    · exact h5 j m hj hm z
    · have e1 : j = k := by omega
      have e2 : m = l := by omega
      subst e1 e2
      exact ⟨i, hi, hc, Nat.le_of_lt (h4 hk i hi)⟩
theorem ld_bf_push (h : ld_bf st p0 k l e q w) (hk : k < e) (hl : l < 2) (hn : ∀ i, i < e → q i ≠ st (q k) l) : ld_bf st p0 k (l + 1) (e + 1) (ld_up q e (st (q k) l)) (ld_up w e (2 * w k + l)) := by
  obtain ⟨⟨h0, h1, h1'⟩, h2, h3, h4, h5⟩ := h
  have hkw := (h2 k hk).2.1
  have hu : ∀ j, j < e → ld_up q e (st (q k) l) j = q j ∧ ld_up w e (2 * w k + l) j = w j := fun j hj => ⟨ld_upn _ _ (by omega), ld_upn _ _ (by omega)⟩
  refine And.intro ⟨by omega, by rw [(hu 0 (by omega)).1]; exact h1, by rw [(hu 0 (by omega)).2]; exact h1'⟩ ⟨?_, ?_, ?_, ?_⟩
  · intro j hj
    by_cases z : j = e
    · subst z
      rw [ld_ups, ld_ups, ld_rnS _ _ _ _ (h2 k hk).1 hl, (h2 k hk).2.2]
      refine ⟨by have := (h2 k hk).1; omega, ?_, rfl⟩
      have a : 2 ^ (k + 1) ≤ 2 ^ j := Nat.pow_le_pow_right (by decide) (by omega)
      rw [Nat.pow_succ 2 j]; omega
    · rw [(hu j (by omega)).1, (hu j (by omega)).2]; exact h2 j (by omega)
  · intro i j hij hj
    rw [(hu i (by omega)).1, (hu i (by omega)).2]
    by_cases z : j = e
    · subst z
      rw [ld_ups, ld_ups]
      exact ⟨hn i hij, h4 hk i hij⟩
    · rw [(hu j (by omega)).1, (hu j (by omega)).2]; exact h3 i j hij (by omega)
  · intro _ j hj
    rw [(hu k hk).2]
    by_cases z : j = e
    · subst z; rw [ld_ups]; omega
    · rw [(hu j (by omega)).2]; have := h4 hk j (by omega); omega
  · intro j m hj hm hlt
    have hje : j < e := by omega
    rw [(hu j hje).1, (hu j hje).2]
    by_cases z : 2 * j + m < 2 * k + l
    · obtain ⟨i, hi, a, b⟩ := h5 j m hje hm z
      exact ⟨i, by omega, by rw [(hu i hi).1]; exact a, by rw [(hu i hi).2]; exact b⟩
    · have e1 : j = k := by omega
      have e2 : m = l := by omega
      subst e1 e2
      exact ⟨e, by omega, by rw [ld_ups], by rw [ld_ups]; omega⟩
theorem ld_bf_next (h : ld_bf st p0 k 2 e q w) : ld_bf st p0 (k + 1) 0 e q w := by
  obtain ⟨h1, h2, h3, h4, h5⟩ := h
  refine And.intro h1 ⟨h2, h3, fun a j hj => ?_, fun j m hj hm hlt => h5 j m hj hm (by omega)⟩
  have a1 := h4 (by omega) j hj
  have a2 := (h3 k (k + 1) (by omega) a).2
  omega
theorem ld_bf_inj (h : ld_bf st p0 k l e q w) : ∀ i j, i < j → j < e → q i ≠ q j := fun i j a b => (h.2.2.1 i j a b).1
theorem ld_bf_asc (h : ld_bf st p0 k l e q w) : ∀ i j, i < j → j < e → w i < w j := fun i j a b => (h.2.2.1 i j a b).2
theorem ld_bf_cover (h : ld_bf st p0 k l e q w) (B : Nat) (hB : ∀ j, j < e → w j < B → j < k) : ∀ v, 1 ≤ v → v < 2 * B → ∃ i, i < e ∧ q i = ld_rn st p0 v ∧ w i ≤ v := by
  obtain ⟨⟨h0, h1, h1'⟩, h2, h3, h4, h5⟩ := h
  refine ld_ind ?_ ?_
  · intro _
    exact ⟨0, by omega, by rw [ld_rn1]; exact h1, by omega⟩
  · intro v m hv hm ih hb
    obtain ⟨i, hi, a, b⟩ := ih (by omega)
    have hik := hB i hi (by omega)
    obtain ⟨j, hj, c, f⟩ := h5 i m hi hm (by omega)
    exact ⟨j, hj, by rw [ld_rnS _ _ _ _ hv hm, ← a]; exact c, by omega⟩
/-- the first entry with a mark has the least word that leads to a mark -/
theorem ld_bf_least (h : ld_bf st p0 k 0 e q w) (hk : k < e) {Q : Nat → Prop} (hq : ∀ j, j < k → ¬ Q (q j)) : ∀ v, 1 ≤ v → v < w k → ¬ Q (ld_rn st p0 v) := by
  intro v hv hvk z
  obtain ⟨i, hi, a, b⟩ := ld_bf_cover h (w k) (fun j hj hw => by
    rcases Nat.lt_trichotomy j k with x | x | x
    · exact x
    · subst x; omega
    · have := ld_bf_asc h k j x hj; omega) v hv (by omega)
  have hik : i < k := by
    rcases Nat.lt_trichotomy i k with x | x | x
    · exact x
    · subst x; omega
    · have := ld_bf_asc h k i x hi; omega
  rw [← a] at z
  exact hq i hik z
theorem ld_bf_all (h : ld_bf st p0 k l e q w) (hk : e ≤ k) : ∀ v, 1 ≤ v → ∃ i, i < e ∧ q i = ld_rn st p0 v ∧ w i ≤ v :=
  fun v hv => ld_bf_cover h (v + 1) (fun j hj _ => by omega) v hv (by omega)
theorem ld_bf_room (h : ld_bf st p0 k l e q w) {M c : Nat} (hM : ∀ i, i < e → q i < M) (hc : c < M) (hn : ∀ i, i < e → q i ≠ c) : e < M :=
  ld_inj_lt hM (ld_bf_inj h) hc hn
end
end
section
/-! the row of answers as bits -/
def ld_bs (z : Nat → Int32) : Nat → Int32
  | 0 => 0
  | e + 1 => ld_bs z e ||| (if z e = 0 then 0 else (1 : Int32) <<< (nI e &&& 31))
theorem ld_b1 : ∀ i, i < 32 → bt 1 i = decide (i = 0) := by decide +kernel
theorem ld_bs_bit (z : Nat → Int32) : ∀ E, E ≤ 31 → ∀ i, i < 32 → bt (ld_bs z E) i = (decide (i < E) && decide (z i ≠ 0)) := by
  intro E
  induction E with
  | zero =>
    intro _ i _
    show bt 0 i = _
    rw [b_0]
    simp
  | succ E ih =>
    intro hE i hi
    show bt (ld_bs z E ||| (if z E = 0 then 0 else (1 : Int32) <<< (nI E &&& 31))) i = _
    rw [b_or, ih (by omega) i hi]
    by_cases hz : z E = 0
    · rw [if_pos hz, b_0, Bool.or_false]
      by_cases h : i = E
      · subst h; simp [hz]
      · rw [show decide (i < E + 1) = decide (i < E) from decide_eq_decide.mpr (by omega)]
    · rw [if_neg hz, b_shl E (by omega) 1 hi, ld_b1 (i - E) (by omega)]
      by_cases h : i = E
      · subst h; simp [hz]
      · rw [show decide (i < E + 1) = decide (i < E) from decide_eq_decide.mpr (by omega)]
        rw [show (decide (E ≤ i) && decide (i - E = 0)) = false from by
          by_cases a : E ≤ i
          · rw [decide_eq_false (show ¬ i - E = 0 by omega), Bool.and_false]
          · rw [decide_eq_false a, Bool.false_and]]
        rw [Bool.or_false]
theorem ld_bs_congr {z z' : Nat → Int32} : ∀ E, (∀ e, e < E → z e = z' e) → ld_bs z E = ld_bs z' E := by
  intro E
  induction E with
  | zero => intro _; rfl
  | succ E ih =>
    intro h
    show (ld_bs z E ||| (if z E = 0 then 0 else (1 : Int32) <<< (nI E &&& 31))) = (ld_bs z' E ||| (if z' E = 0 then 0 else (1 : Int32) <<< (nI E &&& 31)))
    rw [ih (fun e he => h e (by omega)), h E (by omega)]
theorem ld_bs_inj {z z' : Nat → Int32} {E : Nat} (hE : E ≤ 31) (h1 : ∀ e, e < E → z e = 0 ∨ z e = 1) (h2 : ∀ e, e < E → z' e = 0 ∨ z' e = 1) (h : ld_bs z E = ld_bs z' E) : ∀ e, e < E → z e = z' e := by
  intro e he
  have a := ld_bs_bit z E hE e (by omega)
  have b := ld_bs_bit z' E hE e (by omega)
  rw [h, b, decide_eq_true he, Bool.true_and, Bool.true_and] at a
  rcases h1 e he with x | x <;> rcases h2 e he with y | y <;> rw [x, y] at a ⊢ <;> revert a <;> decide
theorem ld_bs_1 {z : Nat → Int32} {E : Nat} (hE : E ≤ 31) (h0 : 1 ≤ E) (hz : z 0 = 0 ∨ z 0 = 1) : ld_bs z E &&& 1 = z 0 := by
  apply b_ext
  intro i hi
  rw [b_and, ld_bs_bit z E hE i hi, ld_b1 i hi]
  by_cases h : i = 0
  · subst h
    rw [decide_eq_true (show 0 < E by omega)]
    rcases hz with x | x <;> rw [x] <;> decide
  · rw [decide_eq_false h, Bool.and_false]
    rcases hz with x | x <;> rw [x]
    · rw [b_0]
    · rw [ld_b1 i hi, decide_eq_false h]
theorem ld_xor1 (x y : Int32) : (x ^^^ y) &&& 1 = 0 ↔ x &&& 1 = y &&& 1 := by
  constructor
  · intro h
    apply b_ext
    intro i hi
    have a : bt ((x ^^^ y) &&& 1) i = false := by rw [h, b_0]
    rw [b_and, b_xor] at a
    rw [b_and, b_and]
    revert a
    generalize bt x i = p
    generalize bt y i = q
    generalize bt 1 i = r
    revert p q r
    decide
  · intro h
    apply b_ext
    intro i hi
    have a : bt (x &&& 1) i = bt (y &&& 1) i := by rw [h]
    rw [b_and, b_and] at a
    rw [b_and, b_xor, b_0]
    revert a
    generalize bt x i = p
    generalize bt y i = q
    generalize bt 1 i = r
    revert p q r
    decide
end
section
/-! the class's small functions on words -/
def ld_d (a : Nat → Int32) (s l : Nat) : Nat := (a (2 * s + l)).toNatClampNeg
def ld_tab (a : Nat → Int32) (n : Nat) : Prop := ∀ s l, s < n → l < 2 → ∃ j, j < n ∧ a (2 * s + l) = nI j
theorem ld_d_of {a : Nat → Int32} {s l j : Nat} (h : a (2 * s + l) = nI j) (hj : j < 7) : ld_d a s l = j := by
  unfold ld_d
  rw [h, nI_clamp (by omega)]
theorem ld_tab_d {a : Nat → Int32} {n : Nat} (h : ld_tab a n) (hn : n ≤ 7) {s l : Nat} (hs : s < n) (hl : l < 2) : a (2 * s + l) = nI (ld_d a s l) ∧ ld_d a s l < n := by
  obtain ⟨j, hj, e⟩ := h s l hs hl
  rw [ld_d_of e (by omega)]
  exact ⟨e, hj⟩
theorem ld_tab_lt {a : Nat → Int32} {n : Nat} (h : ld_tab a n) (hn : n ≤ 7) : ∀ s l, s < n → l < 2 → ld_d a s l < n := fun s l hs hl => (ld_tab_d h hn hs hl).2
theorem ld_tab_rn {a : Nat → Int32} {n s : Nat} (h : ld_tab a n) (hn : n ≤ 7) (hs : s < n) {w : Nat} (hw : 1 ≤ w) : ld_rn (ld_d a) s w < n := ld_rn_lt (ld_tab_lt h hn) hs w hw
/-- the hidden machine is well formed -/
def ld_M (aN aG : Nat → Int32) : Prop := ld_tab aN 7 ∧ ∀ i, i < 7 → aG i = 0 ∨ aG i = 1
theorem ld_lg (w : Nat) (hw : 1 ≤ w) : ∃ m, 2 ^ m ≤ w ∧ w < 2 ^ (m + 1) := ⟨Nat.log2 w, Nat.log2_self_le (by omega), Nat.lt_log2_self⟩
theorem ld_lgk {w k m : Nat} (h : 2 ^ m ≤ w) (hw : w < 2 ^ (k + 1)) : m ≤ k := by
  have := (Nat.pow_lt_pow_iff_right (by decide : 1 < 2)).mp (Nat.lt_of_le_of_lt h hw)
  omega
theorem ld_p31 {w m : Nat} (h2 : w < 2 ^ (m + 1)) (hm : m ≤ 30) : w < 2 ^ 31 := Nat.lt_of_lt_of_le h2 (Nat.pow_le_pow_right (by decide) (by omega))
theorem ld_len4 {post : Int32 → Prop} {w m : Nat} (h1 : 2 ^ m ≤ w) (h2 : w < 2 ^ (m + 1)) (hm : m ≤ 30) (h : post (nI m)) : ∀ n j, 1 ≤ j → j ≤ 31 → 31 - j < n → wX_lengthOf_4 post (nI w) n (nI (min m (j - 1))) (nI j) := by
  have hw := ld_p31 h2 hm
  intro n
  induction n with
  | zero => intro j _ _ h; omega
  | succ n ih =>
    intro j hj1 hj2 hn
    refine pk_le 31 j (fun hj => ?_) (fun hj => ?_)
    · rw [show min m (j - 1) = m from by omega]; exact h
    · rw [pk_ushrN (by omega) (nI j) j (s_u j (by omega))]
      have z := ih (j + 1) (by omega) (by omega) (by omega)
      rcases Nat.lt_or_ge m j with y | y
      · refine br_t (by rw [Nat.div_eq_of_lt (Nat.lt_of_lt_of_le h2 (Nat.pow_le_pow_right (by decide) (by omega)))]; rfl) (nm_r (nI_1 j) ?_)
        rw [show min m (j + 1 - 1) = min m (j - 1) from by omega] at z
        exact z
      · refine br_f (nI_ne0 (Nat.div_pos (Nat.le_trans (Nat.pow_le_pow_right (by decide) y) h1) (Nat.two_pow_pos j)) (Nat.lt_of_le_of_lt (Nat.div_le_self _ _) hw)) (nm_r (nI_1 j) ?_)
        rw [show min m (j + 1 - 1) = j from by omega] at z
        exact z
theorem ld_len {post : Int32 → Prop} {w m : Nat} (h1 : 2 ^ m ≤ w) (h2 : w < 2 ^ (m + 1)) (hm : m ≤ 30) (h : post (nI m)) : wpX_lengthOf post (nI w) := by
  refine ⟨31, ?_⟩
  have z := ld_len4 h1 h2 hm h 31 1 (by omega) (by omega) (by omega)
  rw [show min m (1 - 1) = 0 from by omega] at z
  exact z
theorem ld_or (a b : Nat) : nI a ||| nI b = nI (a ||| b) := by
  apply Int32.toBitVec_inj.1
  show BitVec.ofNat 32 a ||| BitVec.ofNat 32 b = BitVec.ofNat 32 (a ||| b)
  apply BitVec.eq_of_getLsbD_eq
  intro i hi
  simp [hi]
theorem ld_jn {a v m : Nat} (hm : m ≤ 30) (ha : a * 2 ^ m < 2 ^ 32) (hv : v < 2 ^ 32) : (nI a <<< (nI m &&& 31)) ||| (nI v &&& (((1 : Int32) <<< (nI m &&& 31)) - 1)) = nI (a * 2 ^ m + v % 2 ^ m) := by
  have hp : 2 ^ m ≤ 2 ^ 30 := Nat.pow_le_pow_right (by decide) hm
  have hp0 := Nat.two_pow_pos m
  have e1 : (1 : Int32) <<< (nI m &&& 31) = nI (2 ^ m) := by
    have z := pk_shlN (n := 1) (nI m &&& 31) m (s_l m (by omega)) (by omega)
    rw [Nat.one_mul] at z
    exact z
  rw [pk_shlN (nI m &&& 31) m (s_l m (by omega)) ha, e1, show nI (2 ^ m) - 1 = nI (2 ^ m - 1) from pk_sub (b := 1) hp0, pk_andN hv m (pk_tn (by omega)), ld_or, Nat.mul_comm, ← Nat.two_pow_add_eq_or_of_lt (Nat.mod_lt _ hp0)]
theorem ld_catm (w : Nat) {v m : Nat} (h1 : 2 ^ m ≤ v) (h2 : v < 2 ^ (m + 1)) : ld_cat w v = w * 2 ^ m + v % 2 ^ m := by
  rw [Nat.pow_succ] at h2
  have e : v % 2 ^ m = v - 2 ^ m := by
    rw [Nat.mod_eq_sub_mod h1, Nat.mod_eq_of_lt (by omega)]
  have z := ld_cat_eq w m (v - 2 ^ m) (by omega)
  rw [show 2 ^ m + (v - 2 ^ m) = v from by omega] at z
  rw [z, e]
theorem ld_join {post : Int32 → Prop} {w v : Nat} (hv : 1 ≤ v) (hw : w < 2 ^ 15) (hv2 : v < 2 ^ 15) (h : post (nI (ld_cat w v))) : wpX_join post (nI w) (nI v) := by
  obtain ⟨m, h1, h2⟩ := ld_lg v hv
  have hm : m ≤ 14 := ld_lgk h1 hv2
  unfold wpX_join
  refine ld_len h1 h2 (by omega) ?_
  have hp : 2 ^ m ≤ 2 ^ 14 := Nat.pow_le_pow_right (by decide) hm
  have ha : w * 2 ^ m ≤ 2 ^ 15 * 2 ^ 14 := Nat.mul_le_mul (by omega) hp
  rw [ld_jn (by omega) (by omega) (by omega), ← ld_catm w h1 h2]
  exact h
theorem ld_wof {post : Int32 → Prop} {w L k : Nat} (h1 : 2 ^ L ≤ w) (h2 : w < 2 ^ (L + 1)) (hL : L ≤ 30) (hk : k ≤ L) (h : post (nI (2 ^ (L - k) + w % 2 ^ (L - k)))) : wpX_withoutFirst post (nI w) (nI k) := by
  have hw := ld_p31 h2 hL
  unfold wpX_withoutFirst
  refine ld_len h1 h2 hL (nm_r (pk_sub hk) ?_)
  have hp : 2 ^ (L - k) ≤ 2 ^ 30 := Nat.pow_le_pow_right (by decide) (by omega)
  have z := ld_jn (a := 1) (v := w) (m := L - k) (by omega) (by omega) (by omega)
  rw [Nat.one_mul] at z
  rw [show (1 : Int32) <<< (nI (L - k) &&& 31) ||| (nI w &&& ((1 : Int32) <<< (nI (L - k) &&& 31) - 1)) = nI (2 ^ (L - k) + w % 2 ^ (L - k)) from z]
  exact h
theorem ld_ix (s b : Nat) : 2 * nI s + nI b = nI (2 * s + b) := by
  rw [← nI_add, ← pk_mul]
  rfl
theorem ld_bitX {w m : Nat} (hw : w < 2 ^ 31) (hm : m < 32) : (((nI w).toUInt32 >>> ((nI m).toUInt32 &&& Int32.toUInt32 31)).toInt32) &&& 1 = nI (w / 2 ^ m % 2) := by
  rw [pk_ushrN (by omega) (nI m) m (s_u m hm)]
  exact pk_andN (Nat.lt_of_le_of_lt (Nat.div_le_self _ _) (by omega)) 1 (by decide)
theorem ld_bitY {w m : Nat} (hw : w < 2 ^ 31) (hm : m < 32) : (nI w >>> (nI m &&& 31)) &&& 1 = nI (w / 2 ^ m % 2) := by
  rw [pk_shrN hw (nI m &&& 31) m (s_l m hm)]
  exact pk_andN (Nat.lt_of_le_of_lt (Nat.div_le_self _ _) (by omega)) 1 (by decide)
theorem ld_step (d : Nat → Nat → Nat) (s w m : Nat) (h : 2 ^ (m + 1) ≤ w) : ld_rn d s (w / 2 ^ m) = d (ld_rn d s (w / 2 ^ (m + 1))) (w / 2 ^ m % 2) := by
  rw [ld_rnD d s (w / 2 ^ m) ((Nat.le_div_iff_mul_le (Nat.two_pow_pos m)).mpr (by rw [Nat.pow_succ] at h; omega)), Nat.div_div_eq_div_mul, Nat.pow_succ]
theorem ld_sm1 (x : Int32) : x + (-1) = x - 1 := (Int32.sub_eq_add_neg x 1).symm
theorem ld_nb {x : Int32} (h : x = 0 ∨ x = 1) : narrow .boolean (.int x) = .int x := by
  rcases h with rfl | rfl
  · exact narrow_b0
  · exact narrow_b1
theorem ld_isW {post : Int32 → Prop} {x : Int32} (h0 : (∀ j : Nat, 1 ≤ j → j ≤ 4095 → x ≠ nI j) → post 0) (h1 : ∀ j : Nat, 1 ≤ j → j ≤ 4095 → x = nI j → post 1) : wpX_isWord post x := by
  unfold wpX_isWord
  by_cases a : x < 1
  · refine br_t a (h0 fun j hj hj2 e => ?_)
    rw [e] at a
    exact absurd a (nI_nlt (b := 1) hj (by omega))
  · refine br_f a ?_
    have hx : ¬ x < 0 := fun z => a (Int32.lt_trans z (by decide))
    obtain ⟨j, hj, rfl⟩ := nI_of hx
    have hj1 : 1 ≤ j := by
      rcases Nat.lt_or_ge j 1 with y | y
      · exact absurd (nI_lt (b := 1) y (by decide)) a
      · exact y
    refine pk_lt 4095 j (fun z => h0 fun i hi hi2 e => ?_) (fun z => h1 j hj1 z rfl)
    rw [nI_eq hj (by omega)] at e
    omega
section
variable {lrn rws eds qe : Int32} {aN aG aB aA aE gN aS qP qW rK kR fW : Nat → Int32}
theorem ld_good9 {post : Int32 → Prop} {w : Nat} (hM : ld_M aN aG) (hw : w < 2 ^ 31) (hw1 : 1 ≤ w) (h : post (aG (ld_rn (ld_d aN) 0 w))) : ∀ m n, m ≤ 30 → m < n → 2 ^ m ≤ w → wX_isGoodWord_9 post (nI w) lrn rws eds qe aN aG aB aA aE gN aS qP qW rK kR fW n (nI (ld_rn (ld_d aN) 0 (w / 2 ^ m))) (nI m - 1) := by
  intro m
  induction m with
  | zero =>
    intro n _ hn _
    obtain ⟨n, rfl⟩ : ∃ k, n = k + 1 := ⟨n - 1, by omega⟩
    have hs := ld_tab_rn hM.1 (Nat.le_refl 7) (s := 0) (by decide) hw1
    rw [Nat.pow_zero, Nat.div_one]
    refine br_t (show nI 0 - 1 < 0 by decide) ?_
    rw [nI_clamp (by omega)]
    exact ⟨vp_in_nI hs (by decide), ld_nb (hM.2 _ hs), h⟩
  | succ m ih =>
    intro n hm hn hp
    obtain ⟨n, rfl⟩ : ∃ k, n = k + 1 := ⟨n - 1, by omega⟩
    have hd1 : 1 ≤ w / 2 ^ (m + 1) := Nat.div_pos hp (Nat.two_pow_pos _)
    have hs := ld_tab_rn hM.1 (Nat.le_refl 7) (s := 0) (by decide) hd1
    have hb : w / 2 ^ m % 2 < 2 := Nat.mod_lt _ (by decide)
    have hp2 : 2 ^ m ≤ w := Nat.le_trans (Nat.pow_le_pow_right (by decide) (by omega)) hp
    have z := ih n (by omega) (by omega) hp2
    rw [nI_pred]
    refine br_f (nI_pos (by omega)) ?_
    rw [ld_bitX hw (by omega), ld_ix, nI_clamp (by omega)]
    refine ⟨vp_in_nI (by omega) (by decide), nm_r (e' := nI (ld_rn (ld_d aN) 0 (w / 2 ^ m))) ?_ (nm_r (ld_sm1 (nI m)) z)⟩
    rw [ld_step _ _ _ _ hp]
    exact (ld_tab_d hM.1 (Nat.le_refl 7) hs hb).1
theorem ld_good {post : Int32 → Prop} {w : Nat} (hM : ld_M aN aG) (hw : w < 2 ^ 31) (hw1 : 1 ≤ w) (h : post (aG (ld_rn (ld_d aN) 0 w))) : wpX_isGoodWord post (lrn, rws, eds, qe, aN, aG, aB, aA, aE, gN, aS, qP, qW, rK, kR, fW) (nI w) := by
  obtain ⟨m, h1, h2⟩ := ld_lg w hw1
  have hm : m ≤ 30 := ld_lgk h1 hw
  unfold wpX_isGoodWord
  dsimp only
  refine ld_len h1 h2 hm (nm_e ⟨m + 1, ?_⟩)
  have z := ld_good9 (lrn := lrn) (rws := rws) (eds := eds) (qe := qe) (aB := aB) (aA := aA) (aE := aE) (gN := gN) (aS := aS) (qP := qP) (qW := qW) (rK := rK) (kR := kR) (fW := fW) hM hw hw1 h m (m + 1) hm (by omega) h1
  rw [show w / 2 ^ m = 1 from Nat.div_eq_of_lt_le (by omega) (by rw [Nat.pow_succ] at h2; omega), ld_rn1] at z
  exact z
theorem ld_after14 {post : Int32 → Prop} {w t n0 : Nat} {x2 x4 : Int32} (hG : ld_tab gN n0) (hn0 : n0 ≤ 7) (h0 : 0 < n0) (hw : w < 2 ^ 31) (hx : x4 - x2 = nI t) (h : post (nI (ld_rn (ld_d gN) 0 (w / 2 ^ t)))) : ∀ j n, t + j ≤ 30 → j < n → 2 ^ (t + j) ≤ w → wX_rowAfter_14 post (nI w) x2 x4 lrn rws eds qe aN aG aB aA aE gN aS qP qW rK kR fW n (nI (ld_rn (ld_d gN) 0 (w / 2 ^ (t + j)))) (nI (t + j) - 1) := by
  intro j
  induction j with
  | zero =>
    intro n ht hn _
    obtain ⟨n, rfl⟩ : ∃ k, n = k + 1 := ⟨n - 1, by omega⟩
    refine br_t ?_ h
    rw [hx]
    show nI t - 1 < nI t
    cases t with
    | zero => decide
    | succ t => rw [nI_pred]; exact nI_lt (by omega) (by omega)
  | succ j ih =>
    intro n hm hn hp
    obtain ⟨n, rfl⟩ : ∃ k, n = k + 1 := ⟨n - 1, by omega⟩
    rw [← Nat.add_assoc] at hp ⊢
    have hd1 : 1 ≤ w / 2 ^ (t + j + 1) := Nat.div_pos hp (Nat.two_pow_pos _)
    have hs := ld_tab_rn hG hn0 (s := 0) h0 hd1
    have hb : w / 2 ^ (t + j) % 2 < 2 := Nat.mod_lt _ (by decide)
    have hp2 : 2 ^ (t + j) ≤ w := Nat.le_trans (Nat.pow_le_pow_right (by decide) (by omega)) hp
    have z := ih n (by omega) (by omega) hp2
    rw [nI_pred]
    refine br_f ?_ ?_
    · rw [hx]; exact nI_nlt (by omega) (by omega)
    · rw [ld_bitX hw (by omega), ld_ix, nI_clamp (by omega)]
      refine ⟨vp_in_nI (by omega) (by decide), nm_r (e' := nI (ld_rn (ld_d gN) 0 (w / 2 ^ (t + j)))) ?_ (nm_r (ld_sm1 (nI (t + j))) z)⟩
      rw [ld_step _ _ _ _ hp]
      exact (ld_tab_d hG hn0 hs hb).1
theorem ld_after {post : Int32 → Prop} {w L k n0 : Nat} (hG : ld_tab gN n0) (hn0 : n0 ≤ 7) (h0 : 0 < n0) (h1 : 2 ^ L ≤ w) (h2 : w < 2 ^ (L + 1)) (hL : L ≤ 30) (hk : k ≤ L) (h : post (nI (ld_rn (ld_d gN) 0 (w / 2 ^ (L - k))))) : wpX_rowAfter post (lrn, rws, eds, qe, aN, aG, aB, aA, aE, gN, aS, qP, qW, rK, kR, fW) (nI w) (nI k) := by
  have hw := ld_p31 h2 hL
  unfold wpX_rowAfter
  dsimp only
  refine ld_len h1 h2 hL (nm_e ⟨k + 1, ?_⟩)
  have z := ld_after14 (lrn := lrn) (rws := rws) (eds := eds) (qe := qe) (aN := aN) (aG := aG) (aB := aB) (aA := aA) (aE := aE) (aS := aS) (qP := qP) (qW := qW) (rK := rK) (kR := kR) (fW := fW) hG hn0 h0 hw (pk_sub hk) h k (k + 1) (by omega) (by omega) (by rw [show L - k + k = L from by omega]; exact h1)
  rw [show L - k + k = L from by omega, show w / 2 ^ L = 1 from Nat.div_eq_of_lt_le (by omega) (by rw [Nat.pow_succ] at h2; omega), ld_rn1] at z
  exact z
end
end
section
/-! the table: answers, rows, closing -/
/-- the bits of a state under the endings -/
def ld_B (aN aG : Nat → Int32) (en : Nat → Nat) (E s : Nat) : Int32 := ld_bs (fun e => aG (ld_rn (ld_d aN) s (en e))) E
def ld_EN (aE : Nat → Int32) (en : Nat → Nat) (E : Nat) : Prop := ∀ e, e < E → aE e = nI (en e) ∧ 1 ≤ en e ∧ en e < 2 ^ 14
/-- the rows: words that grow by a letter each out of an earlier one -/
def ld_rows (b : Nat → Nat) (n : Nat) : Prop := b 0 = 1 ∧ ∀ i, i < n → i = 0 ∨ ∃ j l, j < i ∧ l < 2 ∧ b i = 2 * b j + l
theorem ld_rows_lt {b : Nat → Nat} {n : Nat} (h : ld_rows b n) : ∀ i, i < n → 1 ≤ b i ∧ b i < 2 ^ (i + 1) := by
  intro i
  induction i using Nat.strongRecOn with
  | _ i ih =>
    intro hi
    rcases h.2 i hi with z | ⟨j, l, hj, hl, e⟩
    · subst z; rw [h.1]; exact ⟨by decide, by decide⟩
    · have z := ih j hj (by omega)
      have a : 2 ^ (j + 1) ≤ 2 ^ i := Nat.pow_le_pow_right (by decide) (by omega)
      rw [e, Nat.pow_succ 2 i]
      omega
theorem ld_rows_7 {b : Nat → Nat} {n : Nat} (h : ld_rows b n) (hn : n ≤ 7) {i : Nat} (hi : i < n) : 1 ≤ b i ∧ b i < 2 ^ 7 := by
  have z := ld_rows_lt h i hi
  exact ⟨z.1, Nat.lt_of_lt_of_le z.2 (Nat.pow_le_pow_right (by decide) (by omega))⟩
theorem ld_B_01 {aN aG : Nat → Int32} (hM : ld_M aN aG) {s w : Nat} (hs : s < 7) (hw : 1 ≤ w) : aG (ld_rn (ld_d aN) s w) = 0 ∨ aG (ld_rn (ld_d aN) s w) = 1 := hM.2 _ (ld_tab_rn hM.1 (Nat.le_refl 7) hs hw)
section
variable {lrn rws eds qe : Int32} {aN aG aB aA aE gN aS qP qW rK kR fW : Nat → Int32}
theorem ld_ans4 {post : Int32 → Prop} {w E : Nat} {en : Nat → Nat} (hM : ld_M aN aG) (hE : ld_EN aE en E) (hE2 : E ≤ 10) (hw1 : 1 ≤ w) (hw : w < 2 ^ 8) (h : post (ld_B aN aG en E (ld_rn (ld_d aN) 0 w))) : ∀ n j, j ≤ E → E - j < n → wX_answersOf_4 post (nI w) lrn rws (nI E) qe aN aG aB aA aE gN aS qP qW rK kR fW n (ld_bs (fun e => aG (ld_rn (ld_d aN) (ld_rn (ld_d aN) 0 w) (en e))) j) (nI j) := by
  intro n
  induction n with
  | zero => intro j _ h; omega
  | succ n ih =>
    intro j hj hn
    refine pk_le E j (fun z => ?_) (fun z => ?_)
    · have : j = E := by omega
      subst this
      exact h
    · obtain ⟨e1, e2, e3⟩ := hE j z
      refine ⟨vp_in_nI (by omega) (by decide), ?_⟩
      rw [nI_clamp (by omega), e1]
      refine ld_join e2 (by omega) (by omega) (ld_good hM ?_ (ld_cat_pos hw1 _ e2) ?_)
      · exact Nat.lt_of_lt_of_le (ld_cat_lt (a := 8) hw _ e2 13 e3) (by decide)
      · rw [ld_rn_cat _ _ hw1 _ e2]
        have zz := ih (j + 1) (by omega) (by omega)
        by_cases y : aG (ld_rn (ld_d aN) (ld_rn (ld_d aN) 0 w) (en j)) = 0
        · refine br_t y (nm_r ?_ (nm_r (nI_1 j) zz))
          show _ = ld_bs _ j ||| (if aG (ld_rn (ld_d aN) (ld_rn (ld_d aN) 0 w) (en j)) = 0 then 0 else (1 : Int32) <<< (nI j &&& 31))
          rw [if_pos y]
        · refine br_f y (nm_r ?_ (nm_r (nI_1 j) zz))
          show _ = ld_bs _ j ||| (if aG (ld_rn (ld_d aN) (ld_rn (ld_d aN) 0 w) (en j)) = 0 then 0 else (1 : Int32) <<< (nI j &&& 31))
          rw [if_neg y]
theorem ld_ans {post : Int32 → Prop} {w E : Nat} {en : Nat → Nat} (hM : ld_M aN aG) (hE : ld_EN aE en E) (hE2 : E ≤ 10) (hw1 : 1 ≤ w) (hw : w < 2 ^ 8) (h : post (ld_B aN aG en E (ld_rn (ld_d aN) 0 w))) : wpX_answersOf post (lrn, rws, (nI E), qe, aN, aG, aB, aA, aE, gN, aS, qP, qW, rK, kR, fW) (nI w) :=
  ⟨E + 1, ld_ans4 hM hE hE2 hw1 hw h (E + 1) 0 (by omega) (by omega)⟩
theorem ld_fill2 {post : SX → Prop} {n0 E : Nat} {b en : Nat → Nat} (hM : ld_M aN aG) (hE : ld_EN aE en E) (hE2 : E ≤ 10) (hb : ld_rows b n0) (hn0 : n0 ≤ 7) (hB : ∀ i, i < n0 → aB i = nI (b i))
    (h : ∀ aA', (∀ r, r < n0 → aA' r = ld_B aN aG en E (ld_rn (ld_d aN) 0 (b r))) → post (lrn, (nI n0), (nI E), qe, aN, aG, aB, aA', aE, gN, aS, qP, qW, rK, kR, fW)) : ∀ n j aA, j ≤ n0 → n0 - j < n → (∀ r, r < j → aA r = ld_B aN aG en E (ld_rn (ld_d aN) 0 (b r))) → wX_fillRows_2 post lrn (nI n0) (nI E) qe n (nI j) aN aG aB aA aE gN aS qP qW rK kR fW := by
  intro n
  induction n with
  | zero => intro j _ _ h; omega
  | succ n ih =>
    intro j aA hj hn hA
    refine pk_le n0 j (fun z => ?_) (fun z => ?_)
    · exact h aA (fun r hr => hA r (by omega))
    · have hbj := ld_rows_7 hb hn0 z
      refine ⟨vp_in_nI (by omega) (by decide), ?_⟩
      rw [nI_clamp (by omega), hB j z]
      refine ld_ans hM hE hE2 hbj.1 (by omega) ⟨vp_in_nI (by omega) (by decide), nm_e (nm_r (nI_1 j) (ih (j + 1) _ (by omega) (by omega) ?_))⟩
      intro r hr
      by_cases y : r = j
      · subst y; exact pk_us
      · rw [pk_un y]; exact hA r (by omega)
theorem ld_fill {post : SX → Prop} {n0 E : Nat} {b en : Nat → Nat} (hM : ld_M aN aG) (hE : ld_EN aE en E) (hE2 : E ≤ 10) (hb : ld_rows b n0) (hn0 : n0 ≤ 7) (hB : ∀ i, i < n0 → aB i = nI (b i))
    (h : ∀ aA', (∀ r, r < n0 → aA' r = ld_B aN aG en E (ld_rn (ld_d aN) 0 (b r))) → post (lrn, (nI n0), (nI E), qe, aN, aG, aB, aA', aE, gN, aS, qP, qW, rK, kR, fW)) : wpX_fillRows post (lrn, (nI n0), (nI E), qe, aN, aG, aB, aA, aE, gN, aS, qP, qW, rK, kR, fW) :=
  ⟨n0 + 1, ld_fill2 hM hE hE2 hb hn0 hB h (n0 + 1) 0 aA (by omega) (by omega) (fun r hr => by omega)⟩
theorem ld_rowW2 {post : Int32 → Prop} {n0 : Nat} {x : Int32} (hn0 : n0 ≤ 7) (h1 : ∀ r, r < n0 → aA r = x → post (nI r)) (h2 : (∀ r, r < n0 → aA r ≠ x) → post (-1)) : ∀ n j, j ≤ n0 → n0 - j < n → (∀ r, r < j → aA r ≠ x) → wX_rowWith_2 post x lrn (nI n0) eds qe aN aG aB aA aE gN aS qP qW rK kR fW n (nI j) := by
  intro n
  induction n with
  | zero => intro j _ h; omega
  | succ n ih =>
    intro j hj hn hne
    refine pk_le n0 j (fun z => ?_) (fun z => ?_)
    · exact h2 (fun r hr => hne r (by omega))
    · refine ⟨vp_in_nI (by omega) (by decide), ?_⟩
      rw [nI_clamp (by omega)]
      by_cases y : aA j = x
      · exact br_t y (h1 j z y)
      · refine br_f y (nm_r (nI_1 j) (ih (j + 1) (by omega) (by omega) ?_))
        intro r hr
        by_cases q : r = j
        · subst q; exact y
        · exact hne r (by omega)
theorem ld_rowW {post : Int32 → Prop} {n0 : Nat} {x : Int32} (hn0 : n0 ≤ 7) (h1 : ∀ r, r < n0 → aA r = x → post (nI r)) (h2 : (∀ r, r < n0 → aA r ≠ x) → post (-1)) : wpX_rowWith post (lrn, (nI n0), eds, qe, aN, aG, aB, aA, aE, gN, aS, qP, qW, rK, kR, fW) x :=
  ⟨n0 + 1, ld_rowW2 hn0 h1 h2 (n0 + 1) 0 (by omega) (by omega) (fun r hr => by omega)⟩
end
end
section
/-! closing the table -/
def ld_Bt (aN aG : Nat → Int32) (en : Nat → Nat) (E w : Nat) : Int32 := ld_B aN aG en E (ld_rn (ld_d aN) 0 w)
def ld_CT (aN aG : Nat → Int32) (en : Nat → Nat) (E m n : Nat) (b : Nat → Nat) (aB aA gN : Nat → Int32) : Prop :=
  (1 ≤ n ∧ n ≤ 7) ∧ ld_rows b n ∧ (∀ i, i < n → aB i = nI (b i)) ∧ (∀ i, i < n → aA i = ld_Bt aN aG en E (b i)) ∧
  (∀ i j, i < j → j < n → ld_Bt aN aG en E (b i) ≠ ld_Bt aN aG en E (b j)) ∧
  (∀ i l, i < n → l < 2 → 2 * i + l < m → ∃ j, j < n ∧ gN (2 * i + l) = nI j ∧ ld_Bt aN aG en E (b j) = ld_Bt aN aG en E (2 * b i + l))
def ld_grow (n0 : Nat) (b0 : Nat → Nat) (n : Nat) (b : Nat → Nat) : Prop := n0 ≤ n ∧ ∀ i, i < n0 → b i = b0 i
section
variable {lrn rws eds qe : Int32} {aN aG aB aA aE gN aS qP qW rK kR fW : Nat → Int32}
variable {en b b0 : Nat → Nat} {E n n0 r l : Nat}
theorem ld_CT_old {r' : Nat} (h : ld_CT aN aG en E (2 * r + l) n b aB aA gN) (hr : r < n) (hl : l < 2) (hr' : r' < n) (e : aA r' = ld_Bt aN aG en E (2 * b r + l)) : ld_CT aN aG en E (2 * r + (l + 1)) n b aB aA (upd gN (2 * r + l) (nI r')) := by
  obtain ⟨h1, h2, h3, h4, h5, h6⟩ := h
  refine And.intro h1 ⟨h2, h3, h4, h5, fun i m hi hm hlt => ?_⟩
  by_cases z : 2 * i + m = 2 * r + l
  · have e1 : i = r := by omega
    have e2 : m = l := by omega
    subst e1 e2
    exact ⟨r', hr', pk_us, by rw [← h4 r' hr']; exact e⟩
  · rw [pk_un z]
    exact h6 i m hi hm (by omega)
theorem ld_CT_room (hM : ld_M aN aG) (h : ld_CT aN aG en E (2 * r + l) n b aB aA gN) (hr : r < n) (hl : l < 2) (hn : ∀ r', r' < n → aA r' ≠ ld_Bt aN aG en E (2 * b r + l)) : n < 7 := by
  obtain ⟨h1, h2, h3, h4, h5, h6⟩ := h
  have hb := fun i (hi : i < n) => ld_rows_lt h2 i hi
  refine ld_inj_lt (q := fun i => ld_rn (ld_d aN) 0 (b i)) (c := ld_rn (ld_d aN) 0 (2 * b r + l)) (fun i hi => ?_) (fun i j hij hj z => ?_) ?_ (fun i hi z => ?_)
  · exact ld_tab_rn hM.1 (Nat.le_refl 7) (by decide) (hb i hi).1
  · refine h5 i j hij hj ?_
    unfold ld_Bt
    rw [show ld_rn (ld_d aN) 0 (b i) = ld_rn (ld_d aN) 0 (b j) from z]
  · exact ld_tab_rn hM.1 (Nat.le_refl 7) (by decide) (by have := (hb r hr).1; omega)
  · refine hn i hi ?_
    rw [h4 i hi]
    unfold ld_Bt
    rw [show ld_rn (ld_d aN) 0 (b i) = ld_rn (ld_d aN) 0 (2 * b r + l) from z]
theorem ld_CT_new (h : ld_CT aN aG en E (2 * r + l) n b aB aA gN) (hr : r < n) (hl : l < 2) (h7 : n < 7) (hn : ∀ r', r' < n → aA r' ≠ ld_Bt aN aG en E (2 * b r + l)) :
    ld_CT aN aG en E (2 * r + (l + 1)) (n + 1) (ld_up b n (2 * b r + l)) (upd aB n (nI (2 * b r + l))) (upd aA n (ld_Bt aN aG en E (2 * b r + l))) (upd gN (2 * r + l) (nI n)) := by
  obtain ⟨h1, h2, h3, h4, h5, h6⟩ := h
  have hu : ∀ i, i < n → ld_up b n (2 * b r + l) i = b i := fun i hi => ld_upn _ _ (by omega)
  refine And.intro ⟨by omega, by omega⟩ ⟨⟨?_, fun i hi => ?_⟩, fun i hi => ?_, fun i hi => ?_, fun i j hij hj => ?_, fun i m hi hm hlt => ?_⟩
  · rw [hu 0 (by omega)]; exact h2.1
  · by_cases z : i = n
    · subst z
      rw [ld_ups]
      exact Or.inr ⟨r, l, hr, hl, by rw [hu r hr]⟩
    · rw [hu i (by omega)]
      rcases h2.2 i (by omega) with y | ⟨j, m, hj, hm, e⟩
      · exact Or.inl y
      · exact Or.inr ⟨j, m, hj, hm, by rw [hu j (by omega)]; exact e⟩
  · by_cases z : i = n
    · subst z; rw [pk_us, ld_ups]
    · rw [pk_un z, hu i (by omega)]; exact h3 i (by omega)
  · by_cases z : i = n
    · subst z; rw [pk_us, ld_ups]
    · rw [pk_un z, hu i (by omega)]; exact h4 i (by omega)
  · rw [hu i (by omega)]
    by_cases z : j = n
    · subst z
      rw [ld_ups, ← h4 i hij]
      exact hn i hij
    · rw [hu j (by omega)]; exact h5 i j hij (by omega)
  · have hin : i < n := by omega
    rw [hu i hin]
    by_cases z : 2 * i + m = 2 * r + l
    · have e1 : i = r := by omega
      have e2 : m = l := by omega
      subst e1 e2
      exact ⟨n, by omega, pk_us, by rw [ld_ups]⟩
    · rw [pk_un z]
      obtain ⟨j, hj, a, c⟩ := h6 i m hin hm (by omega)
      exact ⟨j, by omega, a, by rw [hu j hj]; exact c⟩
theorem ld_grow_new {x : Nat} (h : ld_grow n0 b0 n b) : ld_grow n0 b0 (n + 1) (ld_up b n x) := by
  obtain ⟨h1, h2⟩ := h
  refine And.intro (by omega) fun i hi => ?_
  rw [ld_upn _ _ (by omega)]
  exact h2 i hi
end
section
variable {lrn rws eds qe : Int32} {aN aG aB aA aE gN aS qP qW rK kR fW : Nat → Int32}
variable {en b0 : Nat → Nat} {E n0 : Nat} {post : SX → Prop}
theorem ld_close18 {r : Nat} {J2 : Int32 → Int32 → (Nat → Int32) → (Nat → Int32) → (Nat → Int32) → (Nat → Int32) → (Nat → Int32) → (Nat → Int32) → (Nat → Int32) → (Nat → Int32) → (Nat → Int32) → (Nat → Int32) → (Nat → Int32) → (Nat → Int32) → Prop} (hM : ld_M aN aG) (hE : ld_EN aE en E) (hE2 : E ≤ 10) (hr7 : r < 7)
    (hJ : ∀ n b aB aA gN, ld_CT aN aG en E (2 * (r + 1)) n b aB aA gN → ld_grow n0 b0 n b → r < n → J2 (nI (r + 1)) (nI n) aN aG aB aA aE gN aS qP qW rK kR fW) : ∀ f l, l ≤ 2 → 2 - l < f → ∀ n b aB aA gN, ld_CT aN aG en E (2 * r + l) n b aB aA gN → ld_grow n0 b0 n b → r < n → wX_closeTable_18 post J2 (nI r) lrn (nI E) qe f (nI l) (nI n) aN aG aB aA aE gN aS qP qW rK kR fW := by
  intro f
  induction f with
  | zero => intro l _ h; omega
  | succ f ih =>
    intro l hl hf n b aB aA gN hC hg hr
    refine pk_le 2 l (fun z => ?_) (fun z => ?_)
    · have : l = 2 := by omega
      subst this
      exact nm_r (nI_1 r) (hJ n b aB aA gN hC hg hr)
    · have hn7 := hC.1.2
      have hbr := ld_rows_7 hC.2.1 hn7 hr
      refine ⟨vp_in_nI hr7 (by decide), ?_⟩
      rw [nI_clamp (by omega), hC.2.2.1 r hr, ld_ix]
      refine nm_e (ld_ans hM hE hE2 (by omega) (by omega) ?_)
      refine ld_rowW hn7 (fun r' hr' e => ?_) (fun hne => ?_)
      · refine br_t (nI_pos' (by omega)) ?_
        unfold wX_closeTable_100
        rw [ld_ix, nI_clamp (by omega)]
        exact ⟨vp_in_nI (by omega) (by decide), nm_e (nm_r (nI_1 l) (ih (l + 1) (by omega) (by omega) n b aB aA _ (ld_CT_old hC hr z hr' e) hg hr))⟩
      · have h7 := ld_CT_room hM hC hr z hne
        refine br_f (by decide) (br_f (nI_ge (b := 7) h7 (by decide)) ?_)
        refine ⟨vp_in_nI h7 (by decide), nm_e ⟨vp_in_nI h7 (by decide), nm_e (nm_r (nI_1 n) ?_)⟩⟩
        unfold wX_closeTable_100
        rw [ld_ix, nI_clamp (by omega), nI_clamp (by omega)]
        exact ⟨vp_in_nI (by omega) (by decide), nm_e (nm_r (nI_1 l) (ih (l + 1) (by omega) (by omega) (n + 1) _ _ _ _ (ld_CT_new hC hr z h7 hne) (ld_grow_new hg) (by omega)))⟩
theorem ld_close2 (hM : ld_M aN aG) (hE : ld_EN aE en E) (hE2 : E ≤ 10)
    (h : ∀ n b aB aA gN, ld_CT aN aG en E (2 * n) n b aB aA gN → ld_grow n0 b0 n b → post (lrn, (nI n), (nI E), qe, aN, aG, aB, aA, aE, gN, aS, qP, qW, rK, kR, fW)) : ∀ f r, 7 - r < f → ∀ n b aB aA gN, r ≤ n → ld_CT aN aG en E (2 * r) n b aB aA gN → ld_grow n0 b0 n b → wX_closeTable_2 post lrn (nI E) qe f (nI r) (nI n) aN aG aB aA aE gN aS qP qW rK kR fW := by
  intro f
  induction f with
  | zero => intro r h; omega
  | succ f ih =>
    intro r hf n b aB aA gN hr hC hg
    have hn7 := hC.1.2
    refine pk_le n r (fun z => ?_) (fun z => ?_)
    · have : r = n := by omega
      subst this
      exact h r b aB aA gN hC hg
    · refine br_f (nI_ge (b := 7) (by omega) (by decide)) ⟨3, ?_⟩
      exact ld_close18 hM hE hE2 (by omega) (fun n b aB aA gN hC' hg' hr' => ih (r + 1) (by omega) n b aB aA gN (by omega) hC' hg') 3 0 (by omega) (by omega) n b aB aA gN hC hg z
theorem ld_close {n : Nat} {b : Nat → Nat} (hM : ld_M aN aG) (hE : ld_EN aE en E) (hE2 : E ≤ 10) (hC : ld_CT aN aG en E 0 n b aB aA gN)
    (h : ∀ n' b' aB aA gN, ld_CT aN aG en E (2 * n') n' b' aB aA gN → ld_grow n b n' b' → post (lrn, (nI n'), (nI E), qe, aN, aG, aB, aA, aE, gN, aS, qP, qW, rK, kR, fW)) : wpX_closeTable post (lrn, (nI n), (nI E), qe, aN, aG, aB, aA, aE, gN, aS, qP, qW, rK, kR, fW) :=
  ⟨8, ld_close2 hM hE hE2 h 8 0 (by omega) n b aB aA gN (by omega) hC (And.intro (Nat.le_refl n) fun _ _ => rfl)⟩
end
end
section
/-! the search through pairs -/
def ld_st (g h : Nat → Int32) (p l : Nat) : Nat := 7 * ld_d g (p / 7) l + ld_d h (p % 7) l
def ld_Q (e : Nat) (q w : Nat → Nat) (qe : Int32) (aS qP qW : Nat → Int32) : Prop :=
  qe = nI e ∧ (∀ i, i < e → q i < 49 ∧ qP i = nI (q i) ∧ qW i = nI (w i)) ∧ (∀ p, p < 49 → (aS p = 0 ↔ ∀ i, i < e → q i ≠ p))
theorem ld_ix7 (s b : Nat) : 7 * nI s + nI b = nI (7 * s + b) := by
  rw [← nI_add, ← pk_mul]
  rfl
theorem ld_st_eq (g h : Nat → Int32) {x y : Nat} (l : Nat) (hy : y < 7) : ld_st g h (7 * x + y) l = 7 * ld_d g x l + ld_d h y l := by
  unfold ld_st
  rw [show (7 * x + y) / 7 = x from by omega, show (7 * x + y) % 7 = y from by omega]
theorem ld_pair {g h : Nat → Int32} {n m a c : Nat} (hg : ld_tab g n) (hh : ld_tab h m) (hn : n ≤ 7) (hm : m ≤ 7) (ha : a < n) (hc : c < m) : ∀ w, 1 ≤ w → ld_rn (ld_st g h) (7 * a + c) w = 7 * ld_rn (ld_d g) a w + ld_rn (ld_d h) c w ∧ ld_rn (ld_d g) a w < n ∧ ld_rn (ld_d h) c w < m := by
  refine ld_ind ?_ ?_
  · rw [ld_rn1, ld_rn1, ld_rn1]; exact ⟨rfl, ha, hc⟩
  · intro w l hw hl ih
    rw [ld_rnS _ _ _ _ hw hl, ld_rnS _ _ _ _ hw hl, ld_rnS _ _ _ _ hw hl, ih.1, ld_st_eq g h l (by omega)]
    exact ⟨rfl, ld_tab_lt hg hn _ _ ih.2.1 hl, ld_tab_lt hh hm _ _ ih.2.2 hl⟩
theorem ld_Q_le {e : Nat} {q w : Nat → Nat} {qe : Int32} {aS qP qW : Nat → Int32} (h : ld_Q e q w qe aS qP qW) (hi : ∀ i j, i < j → j < e → q i ≠ q j) : e ≤ 49 := by
  cases e with
  | zero => omega
  | succ e =>
    have := ld_inj_lt (M := 49) (e := e) (c := q e) (q := q) (fun i hi => (h.2.1 i (by omega)).1) (fun i j a b => hi i j a (by omega)) (h.2.1 e (by omega)).1 (fun i h' => hi i e h' (by omega))
    omega
section
variable {lrn rws eds qe : Int32} {aN aG aB aA aE gN aS qP qW rK kR fW : Nat → Int32}
theorem ld_reach {post : SX → Prop} {e : Nat} {q w : Nat → Nat} {a c v : Nat} (hQ : ld_Q e q w qe aS qP qW) (hi : ∀ i j, i < j → j < e → q i ≠ q j) (ha : a < 7) (hc : c < 7)
    (h1 : ∀ i, i < e → q i = 7 * a + c → post (lrn, rws, eds, qe, aN, aG, aB, aA, aE, gN, aS, qP, qW, rK, kR, fW))
    (h2 : (∀ i, i < e → q i ≠ 7 * a + c) → ∀ aS' qP' qW', ld_Q (e + 1) (ld_up q e (7 * a + c)) (ld_up w e v) (nI (e + 1)) aS' qP' qW' → post (lrn, rws, eds, (nI (e + 1)), aN, aG, aB, aA, aE, gN, aS', qP', qW', rK, kR, fW)) : wpX_reachPair post (lrn, rws, eds, qe, aN, aG, aB, aA, aE, gN, aS, qP, qW, rK, kR, fW) (nI a) (nI c) (nI v) := by
  obtain ⟨rfl, hq, hs⟩ := hQ
  have hp : 7 * a + c < 49 := by omega
  unfold wpX_reachPair
  dsimp only
  rw [ld_ix7, nI_clamp (by omega)]
  refine ⟨vp_in_nI hp (by decide), ?_⟩
  by_cases z : aS (7 * a + c) = 0
  · have hne := (hs _ hp).mp z
    have he : e < 49 := ld_inj_lt (fun i h' => (hq i h').1) hi hp hne
    refine br_t z ⟨vp_in_nI hp (by decide), nm_e ⟨vp_in_nI he (by decide), nm_e ⟨vp_in_nI he (by decide), nm_e (nm_r (nI_1 e) ?_)⟩⟩⟩
    rw [nI_clamp (by omega)]
    refine h2 hne _ _ _ (And.intro rfl ⟨fun i hie => ?_, fun p hp' => ?_⟩)
    · by_cases y : i = e
      · subst y
        rw [ld_ups, ld_ups, pk_us, pk_us]
        exact ⟨hp, rfl, rfl⟩
      · rw [ld_upn _ _ y, ld_upn _ _ y, pk_un y, pk_un y]
        exact hq i (by omega)
    · by_cases y : p = 7 * a + c
      · subst y
        rw [pk_us]
        constructor
        · intro x; exact absurd x (by decide)
        · intro x; exact absurd (ld_ups q e _) (x e (by omega))
      · rw [pk_un y, hs p hp']
        constructor
        · intro x i hie
          by_cases y' : i = e
          · subst y'; rw [ld_ups]; exact fun t => y t.symm
          · rw [ld_upn _ _ y']; exact x i (by omega)
        · intro x i hie
          have t := x i (by omega)
          rw [ld_upn _ _ (show i ≠ e by omega)] at t
          exact t
  · refine br_f z ?_
    refine Classical.byContradiction fun hno => z ((hs _ hp).mpr fun i hie e2 => hno (h1 i hie e2))
theorem ld_start2 {post : SX → Prop} {a c : Nat} (ha : a < 7) (hc : c < 7)
    (h : ∀ q w aS qP qW, q 0 = 7 * a + c → w 0 = 1 → ld_Q 1 q w (nI 1) aS qP qW → post (lrn, rws, eds, (nI 1), aN, aG, aB, aA, aE, gN, aS, qP, qW, rK, kR, fW)) : ∀ f j aS, j ≤ 49 → 49 - j < f → (∀ p, p < j → aS p = 0) → wX_startSearch_2 post (nI a) (nI c) lrn rws eds qe f (nI j) aN aG aB aA aE gN aS qP qW rK kR fW := by
  intro f
  induction f with
  | zero => intro j _ _ h; omega
  | succ f ih =>
    intro j aS hj hf hz
    refine pk_le 49 j (fun z => ?_) (fun z => ?_)
    · refine ld_reach (e := 0) (q := fun _ => 7 * a + c) (w := fun _ => 1) (v := 1) (And.intro rfl ⟨fun i hi => by omega, fun p hp => ⟨fun _ i hi => by omega, fun _ => hz p (by omega)⟩⟩) (fun i j _ hj => by omega) ha hc (fun i hi => by omega) (fun _ aS' qP' qW' hQ => ?_)
      exact h _ _ aS' qP' qW' (ld_ups _ _ _) (ld_ups _ _ _) hQ
    · refine ⟨vp_in_nI z (by decide), nm_e (nm_r (nI_1 j) ?_)⟩
      rw [nI_clamp (by omega)]
      refine ih (j + 1) _ (by omega) (by omega) (fun p hp => ?_)
      by_cases y : p = j
      · subst y; rw [pk_us]; rfl
      · rw [pk_un y]; exact hz p (by omega)
theorem ld_start {post : SX → Prop} {a c : Nat} (ha : a < 7) (hc : c < 7)
    (h : ∀ q w aS qP qW, q 0 = 7 * a + c → w 0 = 1 → ld_Q 1 q w (nI 1) aS qP qW → post (lrn, rws, eds, (nI 1), aN, aG, aB, aA, aE, gN, aS, qP, qW, rK, kR, fW)) : wpX_startSearch post (lrn, rws, eds, qe, aN, aG, aB, aA, aE, gN, aS, qP, qW, rK, kR, fW) (nI a) (nI c) :=
  ⟨50, ld_start2 ha hc h 50 0 aS (by omega) (by omega) (fun p hp => by omega)⟩
end
section
variable {lrn rws eds qe : Int32} {aN aG aB aA aE gN aS qP qW rK kR fW : Nat → Int32}
variable {post : Int32 → SX → Prop} {n a c : Nat}
theorem ld_fw77 {k x y : Nat} {Q : Nat → Prop} {J : Int32 → Int32 → Int32 → Int32 → Int32 → (Nat → Int32) → (Nat → Int32) → (Nat → Int32) → (Nat → Int32) → (Nat → Int32) → (Nat → Int32) → (Nat → Int32) → (Nat → Int32) → (Nat → Int32) → (Nat → Int32) → (Nat → Int32) → (Nat → Int32) → Prop} (hG : ld_tab gN n) (hn : n ≤ 7) (hH : ld_tab aN 7)
    (hJ : ∀ e q w qe aS qP qW, ld_Q e q w qe aS qP qW → ld_bf (ld_st gN aN) (7 * a + c) (k + 1) 0 e q w → k < e → (∀ j, j < k + 1 → ¬ Q (q j)) → J (nI (k + 1)) lrn rws eds qe aN aG aB aA aE gN aS qP qW rK kR fW) : ∀ f l, l ≤ 2 → 2 - l < f → ∀ e q w qe aS qP qW, ld_Q e q w qe aS qP qW → ld_bf (ld_st gN aN) (7 * a + c) k l e q w → k < e → (∀ j, j < k + 1 → ¬ Q (q j)) → q k = 7 * x + y → x < n → y < 7 → wX_findWrong_77 post J (nI k) (nI x) (nI y) f (nI l) lrn rws eds qe aN aG aB aA aE gN aS qP qW rK kR fW := by
  intro f
  induction f with
  | zero => intro l _ h; omega
  | succ f ih =>
    intro l hl hf e q w qe aS qP qW hQ hb hk hq hqk hx hy
    refine pk_le 2 l (fun z => ?_) (fun z => ?_)
    · have : l = 2 := by omega
      subst this
      exact nm_r (nI_1 k) (hJ e q w qe aS qP qW hQ (ld_bf_next hb) hk hq)
    · have he := ld_Q_le hQ (ld_bf_inj hb)
      have g1 := ld_tab_d hG hn hx z
      have g2 := ld_tab_d hH (by omega) hy z
      have hst := ld_st_eq gN aN (x := x) (y := y) l (by omega)
      rw [← hqk] at hst
      rw [ld_ix, ld_ix, nI_clamp (by omega), nI_clamp (by omega), nI_clamp (by omega), g1.1, g2.1, (hQ.2.1 k hk).2.2, ld_ix]
      refine ⟨vp_in_nI (by omega) (by decide), vp_in_nI (by omega) (by decide), vp_in_nI (by omega) (by decide), ?_⟩
      refine ld_reach hQ (ld_bf_inj hb) (by omega) (by omega) (fun i hi ei => ?_) (fun hne aS' qP' qW' hQ' => ?_)
      · dsimp only
        exact nm_r (nI_1 l) (ih (l + 1) (by omega) (by omega) e q w qe aS qP qW hQ (ld_bf_skip hb hk z hi (ei.trans hst.symm)) hk hq hqk hx hy)
      · dsimp only
        rw [← hst] at hne hQ'
        refine nm_r (nI_1 l) (ih (l + 1) (by omega) (by omega) (e + 1) _ _ _ aS' qP' qW' hQ' (ld_bf_push hb hk z hne) (by omega) (fun j hj => ?_) ?_ hx hy)
        · rw [ld_upn _ _ (by omega)]; exact hq j hj
        · rw [ld_upn _ _ (by omega)]; exact hqk
theorem ld_df130 {k x y : Nat} {Q : Nat → Prop} {J : Int32 → Int32 → Int32 → Int32 → Int32 → (Nat → Int32) → (Nat → Int32) → (Nat → Int32) → (Nat → Int32) → (Nat → Int32) → (Nat → Int32) → (Nat → Int32) → (Nat → Int32) → (Nat → Int32) → (Nat → Int32) → (Nat → Int32) → (Nat → Int32) → Prop} (hG : ld_tab gN n) (hn : n ≤ 7) (hH : ld_tab gN n)
    (hJ : ∀ e q w qe aS qP qW, ld_Q e q w qe aS qP qW → ld_bf (ld_st gN gN) (7 * a + c) (k + 1) 0 e q w → k < e → (∀ j, j < k + 1 → ¬ Q (q j)) → J (nI (k + 1)) lrn rws eds qe aN aG aB aA aE gN aS qP qW rK kR fW) : ∀ f l, l ≤ 2 → 2 - l < f → ∀ e q w qe aS qP qW, ld_Q e q w qe aS qP qW → ld_bf (ld_st gN gN) (7 * a + c) k l e q w → k < e → (∀ j, j < k + 1 → ¬ Q (q j)) → q k = 7 * x + y → x < n → y < n → wX_difference_130 post J (nI k) (nI x) (nI y) f (nI l) lrn rws eds qe aN aG aB aA aE gN aS qP qW rK kR fW := by
  intro f
  induction f with
  | zero => intro l _ h; omega
  | succ f ih =>
    intro l hl hf e q w qe aS qP qW hQ hb hk hq hqk hx hy
    refine pk_le 2 l (fun z => ?_) (fun z => ?_)
    · have : l = 2 := by omega
      subst this
      exact nm_r (nI_1 k) (hJ e q w qe aS qP qW hQ (ld_bf_next hb) hk hq)
    · have he := ld_Q_le hQ (ld_bf_inj hb)
      have g1 := ld_tab_d hG hn hx z
      have g2 := ld_tab_d hH (by omega) hy z
      have hst := ld_st_eq gN gN (x := x) (y := y) l (by omega)
      rw [← hqk] at hst
      rw [ld_ix, ld_ix, nI_clamp (by omega), nI_clamp (by omega), nI_clamp (by omega), g1.1, g2.1, (hQ.2.1 k hk).2.2, ld_ix]
      refine ⟨vp_in_nI (by omega) (by decide), vp_in_nI (by omega) (by decide), vp_in_nI (by omega) (by decide), ?_⟩
      refine ld_reach hQ (ld_bf_inj hb) (by omega) (by omega) (fun i hi ei => ?_) (fun hne aS' qP' qW' hQ' => ?_)
      · dsimp only
        exact nm_r (nI_1 l) (ih (l + 1) (by omega) (by omega) e q w qe aS qP qW hQ (ld_bf_skip hb hk z hi (ei.trans hst.symm)) hk hq hqk hx hy)
      · dsimp only
        rw [← hst] at hne hQ'
        refine nm_r (nI_1 l) (ih (l + 1) (by omega) (by omega) (e + 1) _ _ _ aS' qP' qW' hQ' (ld_bf_push hb hk z hne) (by omega) (fun j hj => ?_) ?_ hx hy)
        · rw [ld_upn _ _ (by omega)]; exact hq j hj
        · rw [ld_upn _ _ (by omega)]; exact hqk
end
end
section
/-! the outer loops of the two searches -/
section
variable {lrn rws eds qe : Int32} {aN aG aB aA aE gN aS qP qW rK kR fW : Nat → Int32}
variable {post : Int32 → SX → Prop} {n a c : Nat}
theorem ld_fw8 {Q : Nat → Prop} (hG : ld_tab gN n) (hn : n ≤ 7) (hM : ld_M aN aG) (ha : a < n) (hc : c < 7) (h01 : ∀ r, r < n → aA r &&& 1 = 0 ∨ aA r &&& 1 = 1) (hQd : ∀ p, Q p ↔ ¬ (aA (p / 7) &&& 1 = aG (p % 7)))
    (h0 : (∀ v, 1 ≤ v → ¬ Q (ld_rn (ld_st gN aN) (7 * a + c) v)) → ∀ qe aS qP qW, post 0 (lrn, rws, eds, qe, aN, aG, aB, aA, aE, gN, aS, qP, qW, rK, kR, fW))
    (h1 : ∀ v, 1 ≤ v → Q (ld_rn (ld_st gN aN) (7 * a + c) v) → (∀ u, 1 ≤ u → u < v → ¬ Q (ld_rn (ld_st gN aN) (7 * a + c) u)) → ∀ qe aS qP qW, post (nI v) (lrn, rws, eds, qe, aN, aG, aB, aA, aE, gN, aS, qP, qW, rK, kR, fW)) :
    ∀ f k, 49 - k < f → ∀ e q w qe aS qP qW, k ≤ e → ld_Q e q w qe aS qP qW → ld_bf (ld_st gN aN) (7 * a + c) k 0 e q w → (∀ j, j < k → ¬ Q (q j)) → wX_findWrong_8 post f (nI k) lrn rws eds qe aN aG aB aA aE gN aS qP qW rK kR fW := by
  intro f
  induction f with
  | zero => intro k h; omega
  | succ f ih =>
    intro k hf e q w qe aS qP qW hke hQ hb hq
    have he := ld_Q_le hQ (ld_bf_inj hb)
    obtain rfl := hQ.1
    refine pk_le e k (fun z => ?_) (fun z => ?_)
    · refine h0 (fun v hv x => ?_) _ _ _ _
      obtain ⟨i, hi, e1, _⟩ := ld_bf_all hb z v hv
      rw [← e1] at x
      exact hq i (by omega) x
    · refine br_f (nI_ge (b := 49) (by omega) (by decide)) ?_
      obtain ⟨q1, q2, q3⟩ := hQ.2.1 k z
      have hw1 := (hb.2.1 k z).1
      have hp := ld_pair hG hM.1 hn (Nat.le_refl 7) ha hc (w k) hw1
      rw [(hb.2.1 k z).2.2] at hp
      have hx : q k / 7 < n := by omega
      have hy : q k % 7 < 7 := Nat.mod_lt _ (by decide)
      rw [nI_clamp (by omega), q2]
      refine ⟨vp_in_nI (by omega) (by decide), by decide, nm_r (e' := nI (q k / 7)) (pk_div (d := 7) (by omega) (by decide) (by decide)) ⟨vp_in_nI (by omega) (by decide), by decide, nm_r (e' := nI (q k % 7)) (pk_rem (d := 7) (by omega) (by decide) (by decide)) ⟨vp_in_nI (by omega) (by decide), ?_⟩⟩⟩
      have key : ∀ z0, z0 = aA (q k / 7) &&& 1 → wX_findWrong_58 post (wX_findWrong_8 post f) (nI k) (nI (q k / 7)) (nI (q k % 7)) z0 lrn rws eds (nI e) aN aG aB aA aE gN aS qP qW rK kR fW := by
        intro z0 hz0
        unfold wX_findWrong_58
        rw [nI_clamp (by omega), nI_clamp (by omega)]
        refine ⟨vp_in_nI hy (by decide), ?_⟩
        by_cases y : z0 = aG (q k % 7)
        · refine br_t y ⟨3, ?_⟩
          refine ld_fw77 (Q := Q) (x := q k / 7) (y := q k % 7) hG hn hM.1 (fun e q w qe aS qP qW hQ' hb' hk' hq' => ih (k + 1) (by omega) e q w qe aS qP qW (by omega) hQ' hb' hq') 3 0 (by omega) (by omega) e q w _ aS qP qW hQ hb z (fun j hj => ?_) (by omega) hx hy
          by_cases t : j = k
          · subst t; rw [hQd, ← hz0]; exact fun t => t y
          · exact hq j (by omega)
        · refine br_f y ⟨vp_in_nI (by omega) (by decide), ?_⟩
          rw [q3]
          refine h1 (w k) hw1 ?_ (ld_bf_least hb z hq) _ _ _ _
          rw [(hb.2.1 k z).2.2, hQd, ← hz0]
          exact y
      rw [nI_clamp (by omega)]
      rcases h01 _ hx with t | t
      · exact br_t t (key 0 t.symm)
      · exact br_f (by rw [t]; decide) (key 1 t.symm)
theorem ld_df59 {Q : Nat → Prop} (hG : ld_tab gN n) (hn : n ≤ 7) (ha : a < n) (hc : c < n) (hQd : ∀ p, Q p ↔ ¬ (aA (p / 7) &&& 1 = aA (p % 7) &&& 1))
    (h0 : (∀ v, 1 ≤ v → ¬ Q (ld_rn (ld_st gN gN) (7 * a + c) v)) → ∀ qe aS qP qW, post 0 (lrn, rws, eds, qe, aN, aG, aB, aA, aE, gN, aS, qP, qW, rK, kR, fW))
    (h1 : ∀ v, 1 ≤ v → Q (ld_rn (ld_st gN gN) (7 * a + c) v) → (∀ u, 1 ≤ u → u < v → ¬ Q (ld_rn (ld_st gN gN) (7 * a + c) u)) → ∀ qe aS qP qW, post (nI v) (lrn, rws, eds, qe, aN, aG, aB, aA, aE, gN, aS, qP, qW, rK, kR, fW)) :
    ∀ f k, 49 - k < f → ∀ e q w qe aS qP qW, k ≤ e → ld_Q e q w qe aS qP qW → ld_bf (ld_st gN gN) (7 * a + c) k 0 e q w → (∀ j, j < k → ¬ Q (q j)) → wX_difference_59 post f (nI k) lrn rws eds qe aN aG aB aA aE gN aS qP qW rK kR fW := by
  intro f
  induction f with
  | zero => intro k h; omega
  | succ f ih =>
    intro k hf e q w qe aS qP qW hke hQ hb hq
    have he := ld_Q_le hQ (ld_bf_inj hb)
    obtain rfl := hQ.1
    refine pk_le e k (fun z => ?_) (fun z => ?_)
    · refine h0 (fun v hv x => ?_) _ _ _ _
      obtain ⟨i, hi, e1, _⟩ := ld_bf_all hb z v hv
      rw [← e1] at x
      exact hq i (by omega) x
    · refine br_f (nI_ge (b := 49) (by omega) (by decide)) ?_
      obtain ⟨q1, q2, q3⟩ := hQ.2.1 k z
      have hw1 := (hb.2.1 k z).1
      have hp := ld_pair hG hG hn hn ha hc (w k) hw1
      rw [(hb.2.1 k z).2.2] at hp
      have hx : q k / 7 < n := by omega
      have hy : q k % 7 < n := by omega
      rw [nI_clamp (by omega), q2]
      refine ⟨vp_in_nI (by omega) (by decide), by decide, nm_r (e' := nI (q k / 7)) (pk_div (d := 7) (by omega) (by decide) (by decide)) ⟨vp_in_nI (by omega) (by decide), by decide, nm_r (e' := nI (q k % 7)) (pk_rem (d := 7) (by omega) (by decide) (by decide)) ⟨vp_in_nI (by omega) (by decide), vp_in_nI (by omega) (by decide), ?_⟩⟩⟩
      rw [nI_clamp (by omega), nI_clamp (by omega), ld_xor1]
      by_cases y : aA (q k / 7) &&& 1 = aA (q k % 7) &&& 1
      · refine br_t y ⟨3, ?_⟩
        refine ld_df130 (Q := Q) (x := q k / 7) (y := q k % 7) hG hn hG (fun e q w qe aS qP qW hQ' hb' hk' hq' => ih (k + 1) (by omega) e q w qe aS qP qW (by omega) hQ' hb' hq') 3 0 (by omega) (by omega) e q w _ aS qP qW hQ hb z (fun j hj => ?_) (by omega) hx hy
        by_cases t : j = k
        · subst t; rw [hQd]; exact fun t => t y
        · exact hq j (by omega)
      · refine br_f y ⟨vp_in_nI (by omega) (by decide), ?_⟩
        rw [q3]
        refine h1 (w k) hw1 ?_ (ld_bf_least hb z hq) _ _ _ _
        rw [(hb.2.1 k z).2.2, hQd]
        exact y
/-- what findWrong finds: nothing, or the least word on which guess and machine differ -/
theorem ld_fw (hG : ld_tab gN n) (hn : n ≤ 7) (h0n : 0 < n) (hM : ld_M aN aG) (h01 : ∀ r, r < n → aA r &&& 1 = 0 ∨ aA r &&& 1 = 1)
    (h0 : (∀ v, 1 ≤ v → aA (ld_rn (ld_d gN) 0 v) &&& 1 = aG (ld_rn (ld_d aN) 0 v)) → ∀ qe aS qP qW, post 0 (lrn, rws, eds, qe, aN, aG, aB, aA, aE, gN, aS, qP, qW, rK, kR, fW))
    (h1 : ∀ v, 1 ≤ v → v < 2 ^ 14 → ¬ (aA (ld_rn (ld_d gN) 0 v) &&& 1 = aG (ld_rn (ld_d aN) 0 v)) → ∀ qe aS qP qW, post (nI v) (lrn, rws, eds, qe, aN, aG, aB, aA, aE, gN, aS, qP, qW, rK, kR, fW)) : wpX_findWrong post (lrn, rws, eds, qe, aN, aG, aB, aA, aE, gN, aS, qP, qW, rK, kR, fW) := by
  have hp := ld_pair (a := 0) (c := 0) hG hM.1 hn (Nat.le_refl 7) h0n (by decide)
  have hQ : ∀ v, 1 ≤ v → (¬ (aA (ld_rn (ld_st gN aN) (7 * 0 + 0) v / 7) &&& 1 = aG (ld_rn (ld_st gN aN) (7 * 0 + 0) v % 7)) ↔ ¬ (aA (ld_rn (ld_d gN) 0 v) &&& 1 = aG (ld_rn (ld_d aN) 0 v))) := by
    intro v hv
    obtain ⟨e, _, h7⟩ := hp v hv
    rw [e, show (7 * ld_rn (ld_d gN) 0 v + ld_rn (ld_d aN) 0 v) / 7 = ld_rn (ld_d gN) 0 v from by omega, show (7 * ld_rn (ld_d gN) 0 v + ld_rn (ld_d aN) 0 v) % 7 = ld_rn (ld_d aN) 0 v from by omega]
  unfold wpX_findWrong
  dsimp only
  refine ld_start (a := 0) (c := 0) (by decide) (by decide) (fun q w aS qP qW e1 e2 hQ1 => ⟨50, ?_⟩)
  refine ld_fw8 (Q := fun p => ¬ (aA (p / 7) &&& 1 = aG (p % 7))) (a := 0) (c := 0) hG hn hM h0n (by decide) h01 (fun p => Iff.rfl) (fun h => ?_) (fun v hv hd hl => ?_) 50 0 (by omega) 1 q w _ aS qP qW (by omega) hQ1 (ld_bf0 e1 e2) (fun j hj => by omega)
  · exact h0 fun v hv => Classical.byContradiction fun x => h v hv ((hQ v hv).mpr x)
  · refine h1 v hv ?_ ((hQ v hv).mp hd)
    refine Classical.byContradiction fun x => (hQ v hv).mp hd ?_
    have hpow : 2 ^ (n + 7) ≤ 2 ^ 14 := Nat.pow_le_pow_right (by decide) (by omega)
    refine ld_union (c := fun r => aA r &&& 1) (g := aG) (ld_tab_lt hG hn) (ld_tab_lt hM.1 (Nat.le_refl 7)) h0n (by decide) (fun u hu hlt => ?_) v hv
    exact Classical.byContradiction fun y => hl u hu (by omega) ((hQ u hu).mpr y)
/-- what the loop of difference finds -/
theorem ld_df (hG : ld_tab gN n) (hn : n ≤ 7) (ha : a < n) (hc : c < n)
    (h0 : (∀ v, 1 ≤ v → aA (ld_rn (ld_d gN) a v) &&& 1 = aA (ld_rn (ld_d gN) c v) &&& 1) → ∀ qe aS qP qW, post 0 (lrn, rws, eds, qe, aN, aG, aB, aA, aE, gN, aS, qP, qW, rK, kR, fW))
    (h1 : ∀ v, 1 ≤ v → ¬ (aA (ld_rn (ld_d gN) a v) &&& 1 = aA (ld_rn (ld_d gN) c v) &&& 1) → (∀ u, 1 ≤ u → u < v → aA (ld_rn (ld_d gN) a u) &&& 1 = aA (ld_rn (ld_d gN) c u) &&& 1) → ∀ qe aS qP qW, post (nI v) (lrn, rws, eds, qe, aN, aG, aB, aA, aE, gN, aS, qP, qW, rK, kR, fW)) :
    wpX_startSearch (fun u => match u with | (lrn, rws, eds, qe, aN, aG, aB, aA, aE, gN, aS, qP, qW, rK, kR, fW) => ∃ n59 : Nat, wX_difference_59 post n59 0 lrn rws eds qe aN aG aB aA aE gN aS qP qW rK kR fW) (lrn, rws, eds, qe, aN, aG, aB, aA, aE, gN, aS, qP, qW, rK, kR, fW) (nI a) (nI c) := by
  have hp := ld_pair hG hG hn hn ha hc
  have hQ : ∀ v, 1 ≤ v → (¬ (aA (ld_rn (ld_st gN gN) (7 * a + c) v / 7) &&& 1 = aA (ld_rn (ld_st gN gN) (7 * a + c) v % 7) &&& 1) ↔ ¬ (aA (ld_rn (ld_d gN) a v) &&& 1 = aA (ld_rn (ld_d gN) c v) &&& 1)) := by
    intro v hv
    obtain ⟨e, _, h7⟩ := hp v hv
    rw [e, show (7 * ld_rn (ld_d gN) a v + ld_rn (ld_d gN) c v) / 7 = ld_rn (ld_d gN) a v from by omega, show (7 * ld_rn (ld_d gN) a v + ld_rn (ld_d gN) c v) % 7 = ld_rn (ld_d gN) c v from by omega]
  refine ld_start (by omega) (by omega) (fun q w aS qP qW e1 e2 hQ1 => ⟨50, ?_⟩)
  refine ld_df59 (Q := fun p => ¬ (aA (p / 7) &&& 1 = aA (p % 7) &&& 1)) hG hn ha hc (fun p => Iff.rfl) (fun h => ?_) (fun v hv hd hl => ?_) 50 0 (by omega) 1 q w _ aS qP qW (by omega) hQ1 (ld_bf0 e1 e2) (fun j hj => by omega)
  · exact h0 fun v hv => Classical.byContradiction fun x => h v hv ((hQ v hv).mpr x)
  · exact h1 v hv ((hQ v hv).mp hd) (fun u hu hlt => Classical.byContradiction fun y => hl u hu hlt ((hQ u hu).mpr y))
end
end
section
/-! a wrong word brings a new ending, and with it the table isn't closed -/
theorem ld_rest (w m : Nat) : 2 ^ (m + 1) + w % 2 ^ (m + 1) = ld_cat (2 + w / 2 ^ m % 2) (2 ^ m + w % 2 ^ m) := by
  rw [ld_cat_eq _ m _ (Nat.mod_lt _ (Nat.two_pow_pos m)), Nat.mod_pow_succ, Nat.pow_succ, Nat.add_mul, Nat.mul_comm (w / 2 ^ m % 2) (2 ^ m)]
  omega
section
variable {aN aG aB aA gN aE : Nat → Int32} {en b : Nat → Nat} {E n : Nat}
theorem ld_Bt_inj (hM : ld_M aN aG) (hE : ld_EN aE en E) (hE2 : E ≤ 10) {w v : Nat} (hw : 1 ≤ w) (hv : 1 ≤ v) (h : ld_Bt aN aG en E w = ld_Bt aN aG en E v) : ∀ e, e < E → aG (ld_rn (ld_d aN) (ld_rn (ld_d aN) 0 w) (en e)) = aG (ld_rn (ld_d aN) (ld_rn (ld_d aN) 0 v) (en e)) := by
  have hs : ∀ u, 1 ≤ u → ld_rn (ld_d aN) 0 u < 7 := fun u hu => ld_tab_rn hM.1 (Nat.le_refl 7) (by decide) hu
  exact ld_bs_inj (z := fun e => aG (ld_rn (ld_d aN) (ld_rn (ld_d aN) 0 w) (en e))) (z' := fun e => aG (ld_rn (ld_d aN) (ld_rn (ld_d aN) 0 v) (en e))) (by omega) (fun e he => ld_B_01 hM (hs w hw) (hE e he).2.1) (fun e he => ld_B_01 hM (hs v hv) (hE e he).2.1) h
theorem ld_Bt_1 (hM : ld_M aN aG) (hE1 : 1 ≤ E) (hE2 : E ≤ 10) (h0 : en 0 = 1) {w : Nat} (hw : 1 ≤ w) : ld_Bt aN aG en E w &&& 1 = aG (ld_rn (ld_d aN) 0 w) := by
  have hs : ld_rn (ld_d aN) 0 w < 7 := ld_tab_rn hM.1 (Nat.le_refl 7) (by decide) hw
  have e : aG (ld_rn (ld_d aN) (ld_rn (ld_d aN) 0 w) (en 0)) = aG (ld_rn (ld_d aN) 0 w) := by
    rw [h0, ld_rn1]
  have z := ld_bs_1 (z := fun e => aG (ld_rn (ld_d aN) (ld_rn (ld_d aN) 0 w) (en e))) (E := E) (by omega) hE1 (by rw [e]; exact hM.2 _ hs)
  rw [e] at z
  exact z
theorem ld_CT_tab (h : ld_CT aN aG en E (2 * n) n b aB aA gN) : ld_tab gN n := by
  intro s l hs hl
  obtain ⟨j, hj, e, _⟩ := h.2.2.2.2.2 s l hs hl (by omega)
  exact ⟨j, hj, e⟩
theorem ld_CT_cl (h : ld_CT aN aG en E (2 * n) n b aB aA gN) {s l : Nat} (hs : s < n) (hl : l < 2) : ld_Bt aN aG en E (b (ld_d gN s l)) = ld_Bt aN aG en E (2 * b s + l) := by
  obtain ⟨j, hj, e, c⟩ := h.2.2.2.2.2 s l hs hl (by omega)
  have := h.1.2
  rw [ld_d_of e (by omega)]
  exact c
/-- what is asked when the first j letters are replaced by the row's own beginning -/
def ld_H (aN aG gN : Nat → Int32) (b : Nat → Nat) (w m : Nat) : Int32 := aG (ld_rn (ld_d aN) (ld_rn (ld_d aN) 0 (b (ld_rn (ld_d gN) 0 (w / 2 ^ m)))) (2 ^ m + w % 2 ^ m))
theorem ld_open (hM : ld_M aN aG) (hE : ld_EN aE en E) (hE2 : E < 10) (hC : ld_CT aN aG en E (2 * n) n b aB aA gN) {w m : Nat} (hw : 2 ^ (m + 1) ≤ w) (hne : ld_H aN aG gN b w (m + 1) ≠ ld_H aN aG gN b w m) (aE' : Nat → Int32) (hE' : ld_EN aE' (ld_up en E (2 ^ m + w % 2 ^ m)) (E + 1)) :
    ∃ r l, r < n ∧ l < 2 ∧ ∀ r', r' < n → ld_Bt aN aG (ld_up en E (2 ^ m + w % 2 ^ m)) (E + 1) (b r') ≠ ld_Bt aN aG (ld_up en E (2 ^ m + w % 2 ^ m)) (E + 1) (2 * b r + l) := by
  have hn7 := hC.1.2
  have hn1 := hC.1.1
  have hT := ld_CT_tab hC
  have hp := Nat.two_pow_pos m
  have hd1 : 1 ≤ w / 2 ^ (m + 1) := Nat.div_pos hw (Nat.two_pow_pos _)
  have hl : w / 2 ^ m % 2 < 2 := Nat.mod_lt _ (by decide)
  have hr := ld_tab_rn hT hn7 (s := 0) (by omega) hd1
  have hbr := ld_rows_lt hC.2.1 _ hr
  refine ⟨ld_rn (ld_d gN) 0 (w / 2 ^ (m + 1)), w / 2 ^ m % 2, hr, hl, fun r' hr' heq => hne ?_⟩
  have hb' := ld_rows_lt hC.2.1 r' hr'
  have inj := ld_Bt_inj hM hE' (by omega) hb'.1 (by omega) heq
  have old : ld_Bt aN aG en E (b r') = ld_Bt aN aG en E (2 * b (ld_rn (ld_d gN) 0 (w / 2 ^ (m + 1))) + w / 2 ^ m % 2) := by
    refine ld_bs_congr E fun e he => ?_
    have z := inj e (by omega)
    rw [ld_upn _ _ (show e ≠ E by omega)] at z
    exact z
  have hst := ld_step (ld_d gN) 0 w m hw
  rw [← ld_CT_cl hC hr hl, ← hst] at old
  have hd2 : 1 ≤ w / 2 ^ m := Nat.div_pos (Nat.le_trans (Nat.pow_le_pow_right (by decide) (by omega)) hw) hp
  have hr2 := ld_tab_rn hT hn7 (s := 0) (by omega) hd2
  have er : r' = ld_rn (ld_d gN) 0 (w / 2 ^ m) := by
    rcases Nat.lt_trichotomy r' (ld_rn (ld_d gN) 0 (w / 2 ^ m)) with x | x | x
    · exact absurd old (hC.2.2.2.2.1 _ _ x hr2)
    · exact x
    · exact absurd old.symm (hC.2.2.2.2.1 _ _ x hr')
  have z := inj E (by omega)
  rw [ld_ups, er, ld_rnS _ _ _ _ hbr.1 hl] at z
  unfold ld_H
  rw [ld_rest, ld_rn_cat _ _ (by omega) _ (by omega), ld_rn2 _ _ _ hl]
  exact z.symm
end
section
variable {lrn rws eds qe : Int32} {aN aG aB aA aE gN aS qP qW rK kR fW : Nat → Int32}
variable {post : SX → Prop} {en b : Nat → Nat} {E n w L : Nat}
theorem ld_add14 (hM : ld_M aN aG) (hC : ld_CT aN aG en E (2 * n) n b aB aA gN) (hE2 : E < 10) (h1 : 2 ^ L ≤ w) (h2 : w < 2 ^ (L + 1)) (hL : L ≤ 13) (hend : ld_H aN aG gN b w 0 ≠ ld_H aN aG gN b w L)
    (h : ∀ m, m + 1 ≤ L → ld_H aN aG gN b w (m + 1) ≠ ld_H aN aG gN b w m → post (lrn, rws, (nI (E + 1)), qe, aN, aG, aB, aA, (upd aE E (nI (2 ^ m + w % 2 ^ m))), gN, aS, qP, qW, rK, kR, fW)) :
    ∀ f k, 1 ≤ k → k ≤ L + 1 → L + 1 - k < f → ld_H aN aG gN b w (L - (k - 1)) = ld_H aN aG gN b w L → wX_addEnding_14 post (nI w) (nI L) (ld_H aN aG gN b w L) lrn rws (nI E) qe aN aG aB aA aE gN aS qP qW rK kR fW f (nI k) := by
  have hn7 := hC.1.2
  have hn1 := hC.1.1
  have hT := ld_CT_tab hC
  intro f
  induction f with
  | zero => intro k _ _ h; omega
  | succ f ih =>
    intro k hk1 hk2 hf hH
    refine pk_lt L k (fun z => ?_) (fun z => ?_)
    · have : k = L + 1 := by omega
      subst this
      rw [show L - (L + 1 - 1) = 0 from by omega] at hH
      exact absurd hH hend
    · have hd : 2 ^ (L - k) ≤ w := Nat.le_trans (Nat.pow_le_pow_right (by decide) (by omega)) h1
      have hd1 : 1 ≤ w / 2 ^ (L - k) := Nat.div_pos hd (Nat.two_pow_pos _)
      have hr := ld_tab_rn hT hn7 (s := 0) (by omega) hd1
      have hbr := ld_rows_7 hC.2.1 hn7 hr
      have hp := Nat.two_pow_pos (L - k)
      have hm := Nat.mod_lt w hp
      have hpl : 2 ^ (L - k) ≤ 2 ^ 12 := Nat.pow_le_pow_right (by decide) (by omega)
      refine ld_after hT hn7 (by omega) h1 h2 (by omega) z (ld_wof h1 h2 (by omega) z ⟨vp_in_nI (by omega) (by decide), ?_⟩)
      rw [nI_clamp (by omega), nI_clamp (by omega), hC.2.2.1 _ hr]
      refine ld_join (by omega) (by omega) (by omega) (ld_good hM ?_ (ld_cat_pos hbr.1 _ (by omega)) ?_)
      · exact Nat.lt_of_lt_of_le (ld_cat_lt (a := 7) hbr.2 _ (by omega) 12 (by omega)) (by decide)
      · rw [ld_rn_cat _ _ hbr.1 _ (by omega)]
        show (ld_H aN aG gN b w (L - k) = ld_H aN aG gN b w L → _) ∧ (¬ ld_H aN aG gN b w (L - k) = ld_H aN aG gN b w L → _)
        by_cases y : ld_H aN aG gN b w (L - k) = ld_H aN aG gN b w L
        · exact br_t y (nm_r (nI_1 k) (ih (k + 1) (by omega) (by omega) (by omega) (by rw [show k + 1 - 1 = k from rfl]; exact y)))
        · refine br_f y ⟨vp_in_nI (by omega) (by decide), nm_e (nm_r (nI_1 E) ?_)⟩
          refine h (L - k) (by omega) ?_
          rw [show L - k + 1 = L - (k - 1) from by omega, hH]
          exact fun t => y t.symm
theorem ld_add (hM : ld_M aN aG) (hE : ld_EN aE en E) (hE1 : 1 ≤ E) (hE2 : E < 10) (he0 : en 0 = 1) (hC : ld_CT aN aG en E (2 * n) n b aB aA gN) (hw1 : 1 ≤ w) (hw : w < 2 ^ 14) (hne : ¬ (aA (ld_rn (ld_d gN) 0 w) &&& 1 = aG (ld_rn (ld_d aN) 0 w)))
    (h : ∀ x aE', ld_EN aE' (ld_up en E x) (E + 1) → (∃ r l, r < n ∧ l < 2 ∧ ∀ r', r' < n → ld_Bt aN aG (ld_up en E x) (E + 1) (b r') ≠ ld_Bt aN aG (ld_up en E x) (E + 1) (2 * b r + l)) → post (lrn, rws, (nI (E + 1)), qe, aN, aG, aB, aA, aE', gN, aS, qP, qW, rK, kR, fW)) : wpX_addEnding post (lrn, rws, (nI E), qe, aN, aG, aB, aA, aE, gN, aS, qP, qW, rK, kR, fW) (nI w) := by
  have hn7 := hC.1.2
  have hn1 := hC.1.1
  have hT := ld_CT_tab hC
  obtain ⟨L, h1, h2⟩ := ld_lg w hw1
  have hL : L ≤ 13 := ld_lgk h1 hw
  have hHL : ld_H aN aG gN b w L = aG (ld_rn (ld_d aN) 0 w) := by
    unfold ld_H
    rw [show w / 2 ^ L = 1 from Nat.div_eq_of_lt_le (by omega) (by rw [Nat.pow_succ] at h2; omega), ld_rn1, hC.2.1.1, ld_rn1]
    rw [Nat.pow_succ] at h2
    rw [show 2 ^ L + w % 2 ^ L = w from by rw [Nat.mod_eq_sub_mod h1, Nat.mod_eq_of_lt (by omega)]; omega]
  have hr := ld_tab_rn hT hn7 (s := 0) (by omega) hw1
  have hH0 : ld_H aN aG gN b w 0 = aA (ld_rn (ld_d gN) 0 w) &&& 1 := by
    unfold ld_H
    rw [Nat.pow_zero, Nat.div_one, Nat.mod_one, ld_rn1, hC.2.2.2.1 _ hr, ld_Bt_1 hM hE1 (by omega) he0 (ld_rows_lt hC.2.1 _ hr).1]
  unfold wpX_addEnding
  dsimp only
  refine ld_len h1 h2 (by omega) (ld_good hM (by omega) hw1 ⟨L + 1, ?_⟩)
  rw [← hHL]
  refine ld_add14 hM hC hE2 h1 h2 hL (by rw [hHL, hH0]; exact hne) (fun m hm hd => ?_) (L + 1) 1 (by omega) (by omega) (by omega) rfl
  have hp := Nat.two_pow_pos m
  have hmod := Nat.mod_lt w hp
  have hpl : 2 ^ m ≤ 2 ^ 12 := Nat.pow_le_pow_right (by decide) (by omega)
  have hE' : ld_EN (upd aE E (nI (2 ^ m + w % 2 ^ m))) (ld_up en E (2 ^ m + w % 2 ^ m)) (E + 1) := by
    intro e he
    by_cases y : e = E
    · subst y; rw [pk_us, ld_ups]; exact ⟨rfl, by omega, by omega⟩
    · rw [pk_un y, ld_upn _ _ y]; exact hE e (by omega)
  exact h _ _ hE' (ld_open hM hE hE2 hC (Nat.le_trans (Nat.pow_le_pow_right (by decide) hm) h1) hd _ hE')
end
end
section
/-! kinds in the order of their first words -/
def ld_K (e : Nat) (p f : Nat → Nat) (rK kR fW : Nat → Int32) : Prop :=
  (∀ i, i < e → p i < 7 ∧ rK i = nI (p i) ∧ fW i = nI (f i) ∧ kR (p i) = nI i) ∧ (∀ r, r < 7 → (∀ i, i < e → p i ≠ r) → kR r = -1)
theorem ld_bf_le {st : Nat → Nat → Nat} {p0 k l e M : Nat} {q w : Nat → Nat} (h : ld_bf st p0 k l e q w) (hM : ∀ i, i < e → q i < M) : e ≤ M := by
  cases e with
  | zero => omega
  | succ e =>
    have := ld_inj_lt (M := M) (e := e) (c := q e) (q := q) (fun i hi => hM i (by omega)) (fun i j a b => ld_bf_inj h i j a (by omega)) (hM e (by omega)) (fun i h' => ld_bf_inj h i e h' (by omega))
    omega
theorem ld_bf_tab {g : Nat → Int32} {n k l e : Nat} {p f : Nat → Nat} (hG : ld_tab g n) (hn : n ≤ 7) (h0 : 0 < n) (h : ld_bf (ld_d g) 0 k l e p f) : ∀ i, i < e → p i < n := by
  intro i hi
  obtain ⟨a, _, c⟩ := h.2.1 i hi
  rw [← c]
  exact ld_tab_rn hG hn h0 a
section
variable {lrn rws eds qe : Int32} {aN aG aB aA aE gN aS qP qW rK kR fW : Nat → Int32}
variable {post : SX → Prop} {n : Nat}
theorem ld_ok59 {k : Nat} {J : Int32 → Int32 → (Nat → Int32) → (Nat → Int32) → (Nat → Int32) → (Nat → Int32) → (Nat → Int32) → (Nat → Int32) → (Nat → Int32) → (Nat → Int32) → (Nat → Int32) → (Nat → Int32) → (Nat → Int32) → (Nat → Int32) → Prop} (hG : ld_tab gN n) (hn : n ≤ 7) (h0 : 0 < n)
    (hJ : ∀ e p f rK kR fW, ld_K e p f rK kR fW → ld_bf (ld_d gN) 0 (k + 1) 0 e p f → k < e → J (nI e) (nI (k + 1)) aN aG aB aA aE gN aS qP qW rK kR fW) : ∀ F l, l ≤ 2 → 2 - l < F → ∀ e p f rK kR fW, ld_K e p f rK kR fW → ld_bf (ld_d gN) 0 k l e p f → k < e → wX_orderKinds_59 post J (nI k) lrn rws eds qe F (nI e) (nI l) aN aG aB aA aE gN aS qP qW rK kR fW := by
  intro F
  induction F with
  | zero => intro l _ h; omega
  | succ F ih =>
    intro l hl hF e p f rK kR fW hK hb hk
    have hpn := ld_bf_tab hG hn h0 hb
    have hen := ld_bf_le hb hpn
    refine pk_le 2 l (fun z => ?_) (fun z => ?_)
    · have : l = 2 := by omega
      subst this
      exact nm_r (nI_1 k) (hJ e p f rK kR fW hK (ld_bf_next hb) hk)
    · have hpk := hpn k hk
      obtain ⟨g1, g2⟩ := ld_tab_d hG hn hpk z
      obtain ⟨k1, k2, k3, k4⟩ := hK.1 k hk
      refine ⟨vp_in_nI (by omega) (by decide), ?_⟩
      rw [nI_clamp (show k < 2 ^ 31 by omega), k2, ld_ix, nI_clamp (show 2 * p k + l < 2 ^ 31 by omega), g1, k3, ld_ix]
      refine ⟨vp_in_nI (by omega) (by decide), nm_e ⟨vp_in_nI (by omega) (by decide), ?_⟩⟩
      rw [nI_clamp (show ld_d gN (p k) l < 2 ^ 31 by omega)]
      by_cases hex : ∃ i, i < e ∧ p i = ld_d gN (p k) l
      · obtain ⟨i, hi, ei⟩ := hex
        have hz : kR (ld_d gN (p k) l) = nI i := by rw [← ei]; exact (hK.1 i hi).2.2.2
        rw [hz]
        exact br_t (nI_pos' (by omega)) (nm_r (nI_1 l) (ih (l + 1) (by omega) (by omega) e p f rK kR fW hK (ld_bf_skip hb hk z hi ei) hk))
      · have hne : ∀ i, i < e → p i ≠ ld_d gN (p k) l := fun i hi ei => hex ⟨i, hi, ei⟩
        have hz := hK.2 (ld_d gN (p k) l) (by omega) hne
        have he := ld_bf_room hb hpn g2 hne
        rw [hz, nI_clamp (show e < 2 ^ 31 by omega)]
        refine br_f (by decide) ⟨vp_in_nI (by omega) (by decide), nm_e ⟨vp_in_nI (by omega) (by decide), nm_e ⟨vp_in_nI (by omega) (by decide), vp_in_nI (by omega) (by decide), nm_e (nm_r (nI_1 e) (nm_r (nI_1 l) ?_))⟩⟩⟩
        refine ih (l + 1) (by omega) (by omega) (e + 1) _ _ _ _ _ ?_ (ld_bf_push hb hk z hne) (by omega)
        refine And.intro (fun i hi => ?_) (fun r hr hno => ?_)
        · by_cases y : i = e
          · subst y
            rw [ld_ups, ld_ups, pk_us, pk_us, pk_us]
            exact ⟨by omega, rfl, rfl, rfl⟩
          · rw [ld_upn _ _ y, ld_upn _ _ y, pk_un y, pk_un y, pk_un (hne i (by omega))]
            exact hK.1 i (by omega)
        · have h1 := hno e (by omega)
          rw [ld_ups] at h1
          rw [pk_un (fun t => h1 t.symm)]
          refine hK.2 r hr (fun i hi => ?_)
          have h2 := hno i (by omega)
          rw [ld_upn _ _ (show i ≠ e by omega)] at h2
          exact h2
theorem ld_ok46 (hG : ld_tab gN n) (hn : n ≤ 7) (h0 : 0 < n) (h : ∀ e p f rK kR fW, ld_K e p f rK kR fW → ld_bf (ld_d gN) 0 e 0 e p f → post (lrn, rws, eds, qe, aN, aG, aB, aA, aE, gN, aS, qP, qW, rK, kR, fW)) : ∀ F k, 7 - k < F → ∀ e p f rK kR fW, k ≤ e → ld_K e p f rK kR fW → ld_bf (ld_d gN) 0 k 0 e p f → wX_orderKinds_46 post lrn rws eds qe F (nI e) (nI k) aN aG aB aA aE gN aS qP qW rK kR fW := by
  intro F
  induction F with
  | zero => intro k h; omega
  | succ F ih =>
    intro k hF e p f rK kR fW hke hK hb
    have hpn := ld_bf_tab hG hn h0 hb
    have hen := ld_bf_le hb hpn
    refine pk_le e k (fun z => ?_) (fun z => ?_)
    · have : k = e := by omega
      subst this
      exact h k p f rK kR fW hK hb
    · refine br_f (nI_ge (b := 7) (by omega) (by decide)) ⟨3, ?_⟩
      exact ld_ok59 hG hn h0 (fun e p f rK kR fW hK' hb' hk' => ih (k + 1) (by omega) e p f rK kR fW (by omega) hK' hb') 3 0 (by omega) (by omega) e p f rK kR fW hK hb z
theorem ld_ok2 (hG : ld_tab gN n) (hn : n ≤ 7) (h0 : 0 < n) (h : ∀ e p f rK kR fW, ld_K e p f rK kR fW → ld_bf (ld_d gN) 0 e 0 e p f → post (lrn, rws, eds, qe, aN, aG, aB, aA, aE, gN, aS, qP, qW, rK, kR, fW)) : ∀ F j kR, j ≤ 7 → 7 - j < F → (∀ r, r < j → kR r = -1) → wX_orderKinds_2 post lrn rws eds qe F (nI j) aN aG aB aA aE gN aS qP qW rK kR fW := by
  intro F
  induction F with
  | zero => intro j _ _ h; omega
  | succ F ih =>
    intro j kR hj hF hz
    refine pk_le 7 j (fun z => ?_) (fun z => ?_)
    · refine nm_e (nm_e (nm_e ⟨8, ?_⟩))
      refine ld_ok46 hG hn h0 h 8 0 (by omega) 1 (fun _ => 0) (fun _ => 1) _ _ _ (by omega) (And.intro (fun i hi => ?_) (fun r hr hno => ?_)) (ld_bf0 rfl rfl)
      · have : i = 0 := by omega
        subst this
        rw [pk_us, pk_us, pk_us]
        exact ⟨by decide, rfl, rfl, rfl⟩
      · rw [pk_un (fun t => hno 0 (by decide) t.symm)]
        exact hz r (by omega)
    · refine ⟨vp_in_nI z (by decide), nm_e (nm_r (nI_1 j) ?_)⟩
      rw [nI_clamp (by omega)]
      refine ih (j + 1) _ (by omega) (by omega) (fun r hr => ?_)
      by_cases y : r = j
      · subst y; rw [pk_us]
      · rw [pk_un y]; exact hz r (by omega)
theorem ld_order (hG : ld_tab gN n) (hn : n ≤ 7) (h0 : 0 < n) (h : ∀ e p f rK kR fW, ld_K e p f rK kR fW → ld_bf (ld_d gN) 0 e 0 e p f → post (lrn, rws, eds, qe, aN, aG, aB, aA, aE, gN, aS, qP, qW, rK, kR, fW)) : wpX_orderKinds post (lrn, rws, eds, qe, aN, aG, aB, aA, aE, gN, aS, qP, qW, rK, kR, fW) :=
  ⟨8, ld_ok2 hG hn h0 h 8 0 kR (by omega) (by omega) (fun r hr => by omega)⟩
end
end
section
/-! what the class knows when it has learned -/
def ld_LF (aN aG : Nat → Int32) (n : Nat) (s p f : Nat → Nat) (aA gN rK kR fW : Nat → Int32) : Prop :=
  (1 ≤ n ∧ n ≤ 7) ∧ ld_tab gN n ∧ (∀ r, r < n → s r < 7 ∧ aA r &&& 1 = aG (s r)) ∧ s 0 = 0 ∧
  (∀ r l, r < n → l < 2 → ld_eq (ld_d aN) aG (s (ld_d gN r l)) (ld_d aN (s r) l)) ∧
  (∀ r r', r < r' → r' < n → ¬ ld_eq (ld_d aN) aG (s r) (s r')) ∧
  ld_bf (ld_d gN) 0 n 0 n p f ∧ ld_K n p f rK kR fW
section
variable {aN aG aB aA gN aE : Nat → Int32} {en b : Nat → Nat} {E n : Nat}
theorem ld_CT_ne (hC : ld_CT aN aG en E (2 * n) n b aB aA gN) {i j : Nat} (hi : i < n) (hj : j < n) (h : ld_Bt aN aG en E (b i) = ld_Bt aN aG en E (b j)) : i = j := by
  rcases Nat.lt_trichotomy i j with x | x | x
  · exact absurd h (hC.2.2.2.2.1 _ _ x hj)
  · exact x
  · exact absurd h.symm (hC.2.2.2.2.1 _ _ x hi)
theorem ld_reached (hC : ld_CT aN aG en E (2 * n) n b aB aA gN) : ∀ r, r < n → ld_rn (ld_d gN) 0 (b r) = r := by
  intro r
  induction r using Nat.strongRecOn with
  | _ r ih =>
    intro hr
    rcases hC.2.1.2 r hr with z | ⟨j, l, hj, hl, e⟩
    · subst z; rw [hC.2.1.1, ld_rn1]
    · have hjn : j < n := by omega
      rw [e, ld_rnS _ _ _ _ (ld_rows_lt hC.2.1 j hjn).1 hl, ih j hj hjn]
      refine ld_CT_ne hC (ld_tab_lt (ld_CT_tab hC) hC.1.2 j l hjn hl) hr ?_
      rw [ld_CT_cl hC hjn hl, e]
/-- a guess that is never wrong knows each row's state -/
theorem ld_exact (hM : ld_M aN aG) (hE : ld_EN aE en E) (hE1 : 1 ≤ E) (hE2 : E ≤ 10) (he0 : en 0 = 1) (hC : ld_CT aN aG en E (2 * n) n b aB aA gN) (hx : ∀ v, 1 ≤ v → aA (ld_rn (ld_d gN) 0 v) &&& 1 = aG (ld_rn (ld_d aN) 0 v)) {p f : Nat → Nat} {e : Nat} {rK kR fW : Nat → Int32} (hK : ld_K e p f rK kR fW) (hb : ld_bf (ld_d gN) 0 e 0 e p f) :
    ld_LF aN aG n (fun r => ld_rn (ld_d aN) 0 (b r)) p f aA gN rK kR fW := by
  have hT := ld_CT_tab hC
  have hn1 := hC.1.1
  have hn7 := hC.1.2
  have hre := ld_reached hC
  have hrow : ∀ w, 1 ≤ w → ld_eq (ld_d aN) aG (ld_rn (ld_d aN) 0 (b (ld_rn (ld_d gN) 0 w))) (ld_rn (ld_d aN) 0 w) := by
    intro w hw v hv
    have hr := ld_tab_rn hT hn7 (s := 0) (by omega) hw
    have hbr := (ld_rows_lt hC.2.1 _ hr).1
    have e1 := hx (ld_cat w v) (ld_cat_pos hw v hv)
    have e2 := hx (ld_cat (b (ld_rn (ld_d gN) 0 w)) v) (ld_cat_pos hbr v hv)
    rw [ld_rn_cat _ _ hw v hv, ld_rn_cat _ _ hw v hv] at e1
    rw [ld_rn_cat _ _ hbr v hv, ld_rn_cat _ _ hbr v hv, hre _ hr] at e2
    exact e2.symm.trans e1
  have hen : e = n := by
    have h1 := ld_bf_le hb (ld_bf_tab hT hn7 (by omega) hb)
    have h2 : n ≤ e := by
      refine ld_places (fun r k => p k = r) (fun r hr => ?_) (fun r r' k hrr _ a c => ?_)
      · obtain ⟨i, hi, a, _⟩ := ld_bf_all hb (Nat.le_refl e) (b r) (ld_rows_lt hC.2.1 r hr).1
        exact ⟨i, hi, by rw [a]; exact hre r hr⟩
      · have : r = r' := a.symm.trans c
        omega
    omega
  subst hen
  refine And.intro hC.1 ⟨hT, fun r hr => ?_, ?_, fun r l hr hl => ?_, fun r r' hrr hr' heq => ?_, hb, hK⟩
  · have hbr := (ld_rows_lt hC.2.1 r hr).1
    exact ⟨ld_tab_rn hM.1 (Nat.le_refl 7) (by decide) hbr, by rw [hC.2.2.2.1 r hr]; exact ld_Bt_1 hM hE1 hE2 he0 hbr⟩
  · show ld_rn (ld_d aN) 0 (b 0) = 0
    rw [hC.2.1.1, ld_rn1]
  · have hbr := (ld_rows_lt hC.2.1 r hr).1
    have z := hrow (2 * b r + l) (by omega)
    rw [ld_rnS _ _ _ _ hbr hl, ld_rnS _ _ _ _ hbr hl, hre r hr] at z
    exact z
  · exact hC.2.2.2.2.1 r r' hrr hr' (ld_bs_congr E fun e he => heq (en e) (hE e he).2.1)
/-- the head of a round -/
def ld_HD (aN aG : Nat → Int32) (en : Nat → Nat) (E n : Nat) (b : Nat → Nat) (aB aE : Nat → Int32) (i : Nat) : Prop :=
  E = i + 1 ∧ (1 ≤ n ∧ n ≤ 7 ∧ i ≤ n) ∧ ld_rows b n ∧ (∀ j, j < n → aB j = nI (b j)) ∧ ld_EN aE en E ∧ en 0 = 1 ∧
  (∀ i j, i < j → j < n → ld_Bt aN aG en E (b i) ≠ ld_Bt aN aG en E (b j)) ∧
  (i = 0 ∨ ∃ r l, r < n ∧ l < 2 ∧ ∀ r', r' < n → ld_Bt aN aG en E (b r') ≠ ld_Bt aN aG en E (2 * b r + l))
theorem ld_HD_grow {i n' : Nat} {b' : Nat → Nat} {aB' : Nat → Int32} (h : ld_HD aN aG en E n b aB' aE i) (hC : ld_CT aN aG en E (2 * n') n' b' aB aA gN) (hg : ld_grow n b n' b') : i + 1 ≤ n' := by
  obtain ⟨_, ⟨h1, h2, h3⟩, _, _, _, _, _, h8⟩ := h
  obtain ⟨g1, g2⟩ := hg
  rcases h8 with z | ⟨r, l, hr, hl, hno⟩
  · omega
  · rcases Nat.lt_or_ge n n' with y | y
    · omega
    · have e : n' = n := by omega
      subst e
      obtain ⟨j, hj, _, c⟩ := hC.2.2.2.2.2 r l hr hl (by omega)
      rw [g2 j hj, g2 r hr] at c
      exact absurd c (hno j hj)
theorem ld_HD_next {i x : Nat} {aE' : Nat → Int32} (hM : ld_M aN aG) (hE : ld_EN aE en E) (he0 : en 0 = 1) (hEi : E = i + 1) (hin : i + 1 ≤ n) (hC : ld_CT aN aG en E (2 * n) n b aB aA gN) (hE' : ld_EN aE' (ld_up en E x) (E + 1)) (ho : ∃ r l, r < n ∧ l < 2 ∧ ∀ r', r' < n → ld_Bt aN aG (ld_up en E x) (E + 1) (b r') ≠ ld_Bt aN aG (ld_up en E x) (E + 1) (2 * b r + l)) :
    ld_HD aN aG (ld_up en E x) (E + 1) n b aB aE' (i + 1) := by
  have hn7 := hC.1.2
  refine And.intro (by omega) ⟨⟨hC.1.1, hC.1.2, hin⟩, hC.2.1, hC.2.2.1, hE', ?_, fun i j hij hj heq => ?_, Or.inr ho⟩
  · rw [ld_upn _ _ (show 0 ≠ E by omega)]; exact he0
  · have inj := ld_Bt_inj hM hE' (by omega) (ld_rows_lt hC.2.1 i (by omega)).1 (ld_rows_lt hC.2.1 j hj).1 heq
    refine hC.2.2.2.2.1 i j hij hj (ld_bs_congr E fun e he => ?_)
    have z := inj e (by omega)
    rw [ld_upn _ _ (show e ≠ E by omega)] at z
    exact z
end
section
variable {lrn rws eds qe : Int32} {aN aG aB aA aE gN aS qP qW rK kR fW : Nat → Int32}
variable {post : SX → Prop}
theorem ld_learn41 (hM : ld_M aN aG) (h : ∀ n s p f eds qe aB aA aE gN aS qP qW rK kR fW, ld_LF aN aG n s p f aA gN rK kR fW → post (lrn, (nI n), eds, qe, aN, aG, aB, aA, aE, gN, aS, qP, qW, rK, kR, fW)) :
    ∀ F i, 9 - i < F → ∀ n b E en qe aB aA aE gN aS qP qW rK kR fW, ld_HD aN aG en E n b aB aE i → wX_learn_41 post F 1 (nI i) lrn (nI n) (nI E) qe aN aG aB aA aE gN aS qP qW rK kR fW := by
  intro F
  induction F with
  | zero => intro i h; omega
  | succ F ih =>
    intro i hF n b E en qe aB aA aE gN aS qP qW rK kR fW hH
    obtain ⟨hEi, ⟨hn1, hn7, hin⟩, hrows, hB, hE, he0, hdist, _⟩ := id hH
    refine br_f (nI_ge (b := 9) (by omega) (by decide)) (br_f (by decide) ?_)
    refine ld_fill hM hE (by omega) hrows hn7 hB (fun aA' hA' => ?_)
    dsimp only
    refine ld_close hM hE (by omega) (And.intro ⟨hn1, hn7⟩ ⟨hrows, hB, hA', hdist, fun i l _ _ hlt => by omega⟩) (fun n' b' aB' aA2 gN' hC hg => ?_)
    dsimp only
    have hT := ld_CT_tab hC
    have hgr := ld_HD_grow hH hC hg
    have hn7' := hC.1.2
    refine ld_fw hT hn7' (by omega) hM (fun r hr => ?_) (fun hx qe aS qP qW => ?_) (fun v hv hv2 hd qe aS qP qW => ?_)
    · have hbr := (ld_rows_lt hC.2.1 r hr).1
      rw [hC.2.2.2.1 r hr, ld_Bt_1 hM (by omega) (by omega) he0 hbr]
      exact hM.2 _ (ld_tab_rn hM.1 (Nat.le_refl 7) (by decide) hbr)
    · dsimp only
      refine br_t (by decide) ?_
      unfold wX_learn_73
      refine br_t rfl (nm_r (nI_1 i) ?_)
      obtain ⟨F, rfl⟩ : ∃ k, F = k + 1 := ⟨F - 1, by omega⟩
      have fin : wX_learn_89 post lrn (nI n') (nI E) qe aN aG aB' aA2 aE gN' aS qP qW rK kR fW := by
        unfold wX_learn_89
        refine ld_order hT hn7' (by omega) (fun e p f rK kR fW hK hb => ?_)
        exact h n' _ p f _ _ _ _ _ _ _ _ _ _ _ _ (ld_exact hM hE (by omega) (by omega) he0 hC hx hK hb)
      exact br_c (fun _ => fin) (fun _ => br_t rfl fin)
    · dsimp only
      refine br_f (nI_nle (by omega) (by omega)) ?_
      unfold wX_learn_73
      refine br_f (by decide) ?_
      refine ld_add hM hE (by omega) (by omega) he0 hC hv hv2 hd (fun x aE' hE' ho => ?_)
      dsimp only
      exact nm_r (nI_1 i) (ih (i + 1) (by omega) n' b' (E + 1) _ _ _ _ _ _ _ _ _ _ _ _ (ld_HD_next hM hE he0 hEi hgr hC hE' ho))
def ld_KN (aN aG : Nat → Int32) (lrn rws : Int32) (aA gN rK kR fW : Nat → Int32) : Prop := lrn = 0 ∨ (lrn = 1 ∧ ∃ n s p f, rws = nI n ∧ ld_LF aN aG n s p f aA gN rK kR fW)
theorem ld_learn (hM : ld_M aN aG) (hI : ld_KN aN aG lrn rws aA gN rK kR fW) (h : ∀ n s p f eds qe aB aA aE gN aS qP qW rK kR fW, ld_LF aN aG n s p f aA gN rK kR fW → post (1, (nI n), eds, qe, aN, aG, aB, aA, aE, gN, aS, qP, qW, rK, kR, fW)) : wpX_learn post (lrn, rws, eds, qe, aN, aG, aB, aA, aE, gN, aS, qP, qW, rK, kR, fW) := by
  rcases hI with rfl | ⟨rfl, n, s, p, f, rfl, hL⟩
  · refine br_t rfl (nm_e (nm_e ⟨10, ?_⟩))
    refine ld_learn41 hM h 10 0 (by omega) 1 (fun _ => 1) 1 (fun _ => 1) _ _ _ _ _ _ _ _ _ _ _ ?_
    refine And.intro rfl ⟨⟨by omega, by omega, by omega⟩, ⟨rfl, fun i hi => Or.inl (by omega)⟩, fun j hj => ?_, fun e he => ?_, rfl, fun i j hij hj => by omega, Or.inl rfl⟩
    · have : j = 0 := by omega
      subst this
      exact pk_us
    · have : e = 0 := by omega
      subst this
      exact ⟨pk_us, by decide, by decide⟩
  · exact br_f (by decide) (h n s p f _ _ _ _ _ _ _ _ _ _ _ _ hL)
end
end
section
/-! the reference -/
/-- first words of the kinds, in order -/
def ld_EM (aN aG : Nat → Int32) (n : Nat) (f : Nat → Nat) : Prop :=
  (1 ≤ n ∧ n ≤ 7) ∧ (∀ i, i < n → 1 ≤ f i ∧ f i < 128) ∧
  (∀ i j, i < j → j < n → f i < f j ∧ ¬ ld_eq (ld_d aN) aG (ld_rn (ld_d aN) 0 (f i)) (ld_rn (ld_d aN) 0 (f j))) ∧
  (∀ v, 1 ≤ v → ∃ i, i < n ∧ f i ≤ v ∧ ld_eq (ld_d aN) aG (ld_rn (ld_d aN) 0 (f i)) (ld_rn (ld_d aN) 0 v))
section
variable {aN aG aA gN rK kR fW : Nat → Int32} {n : Nat} {s p f : Nat → Nat}
theorem ld_LF_row (h : ld_LF aN aG n s p f aA gN rK kR fW) : ∀ w, 1 ≤ w → ld_rn (ld_d gN) 0 w < n ∧ ld_eq (ld_d aN) aG (s (ld_rn (ld_d gN) 0 w)) (ld_rn (ld_d aN) 0 w) := by
  obtain ⟨⟨h1, h2⟩, h3, h4, h5, h6, h7, h8, h9⟩ := h
  refine ld_ind ?_ ?_
  · rw [ld_rn1, ld_rn1, h5]; exact ⟨by omega, ld_eq_rfl 0⟩
  · intro w l hw hl ih
    rw [ld_rnS _ _ _ _ hw hl, ld_rnS _ _ _ _ hw hl]
    exact ⟨ld_tab_lt h3 h2 _ _ ih.1 hl, ld_eq_tr (h6 _ l ih.1 hl) (ld_eq_d ih.2 hl)⟩
theorem ld_LF_ne (h : ld_LF aN aG n s p f aA gN rK kR fW) {r r' : Nat} (hr : r < n) (hr' : r' < n) (e : ld_eq (ld_d aN) aG (s r) (s r')) : r = r' := by
  rcases Nat.lt_trichotomy r r' with x | x | x
  · exact absurd e (h.2.2.2.2.2.1 r r' x hr')
  · exact x
  · exact absurd (ld_eq_sym e) (h.2.2.2.2.2.1 r' r x hr)
theorem ld_LF_f (h : ld_LF aN aG n s p f aA gN rK kR fW) {i : Nat} (hi : i < n) : (1 ≤ f i ∧ f i < 128 ∧ ld_rn (ld_d gN) 0 (f i) = p i) ∧ p i < n := by
  have z := h.2.2.2.2.2.2.1.2.1 i hi
  refine ⟨⟨z.1, ?_, z.2.2⟩, ?_⟩
  · have : 2 ^ (i + 1) ≤ 2 ^ 7 := Nat.pow_le_pow_right (by decide) (by have := h.1.2; omega)
    omega
  · rw [← z.2.2]; exact (ld_LF_row h _ z.1).1
/-- the kind of a word -/
theorem ld_LF_kind (h : ld_LF aN aG n s p f aA gN rK kR fW) {w : Nat} (hw : 1 ≤ w) {i : Nat} (hi : i < n) (e : p i = ld_rn (ld_d gN) 0 w) : ld_eq (ld_d aN) aG (ld_rn (ld_d aN) 0 (f i)) (ld_rn (ld_d aN) 0 w) := by
  obtain ⟨⟨a, _, b⟩, _⟩ := ld_LF_f h hi
  have e1 := (ld_LF_row h _ a).2
  have e2 := (ld_LF_row h _ hw).2
  rw [b, e] at e1
  exact ld_eq_tr (ld_eq_sym e1) e2
theorem ld_LF_EM (h : ld_LF aN aG n s p f aA gN rK kR fW) : ld_EM aN aG n f := by
  have hb := h.2.2.2.2.2.2.1
  refine And.intro h.1 ⟨fun i hi => ⟨(ld_LF_f h hi).1.1, (ld_LF_f h hi).1.2.1⟩, fun i j hij hj => ⟨ld_bf_asc hb i j hij hj, fun e => ?_⟩, fun v hv => ?_⟩
  · have hi : i < n := by omega
    obtain ⟨⟨a, _, b⟩, c⟩ := ld_LF_f h hi
    obtain ⟨⟨a', _, b'⟩, c'⟩ := ld_LF_f h hj
    have e1 := (ld_LF_row h _ a).2
    have e2 := (ld_LF_row h _ a').2
    rw [b] at e1
    rw [b'] at e2
    exact ld_bf_inj hb i j hij hj (ld_LF_ne h c c' (ld_eq_tr (ld_eq_tr e1 e) (ld_eq_sym e2)))
  · obtain ⟨i, hi, e, hle⟩ := ld_bf_all hb (Nat.le_refl n) v hv
    exact ⟨i, hi, hle, ld_LF_kind h hv hi e⟩
theorem ld_EM_ne (h : ld_EM aN aG n f) {i j : Nat} (hi : i < n) (hj : j < n) (e : ld_eq (ld_d aN) aG (ld_rn (ld_d aN) 0 (f i)) (ld_rn (ld_d aN) 0 (f j))) : i = j := by
  rcases Nat.lt_trichotomy i j with x | x | x
  · exact absurd e (h.2.2.1 i j x hj).2
  · exact x
  · exact absurd (ld_eq_sym e) (h.2.2.1 j i x hi).2
end
section
variable {aN aG fi : Nat → Int32} {fd : Int32} {post : Int32 → Prop} {s t w : Nat}
theorem ld_yrun29 (hM : ld_M aN aG) (hs : s < 7) (hw : w < 2 ^ 31) (hw1 : 1 ≤ w) (h : post (nI (ld_rn (ld_d aN) s w))) : ∀ m n, m ≤ 30 → m < n → 2 ^ m ≤ w → wY_run_29 post (nI w) fd aN aG fi n (nI (ld_rn (ld_d aN) s (w / 2 ^ m))) (nI m - 1) := by
  intro m
  induction m with
  | zero =>
    intro n _ hn _
    obtain ⟨n, rfl⟩ : ∃ k, n = k + 1 := ⟨n - 1, by omega⟩
    rw [Nat.pow_zero, Nat.div_one]
    exact br_t (show nI 0 - 1 < 0 by decide) h
  | succ m ih =>
    intro n hm hn hp
    obtain ⟨n, rfl⟩ : ∃ k, n = k + 1 := ⟨n - 1, by omega⟩
    have hd1 : 1 ≤ w / 2 ^ (m + 1) := Nat.div_pos hp (Nat.two_pow_pos _)
    have hr := ld_tab_rn hM.1 (Nat.le_refl 7) hs hd1
    have hb : w / 2 ^ m % 2 < 2 := Nat.mod_lt _ (by decide)
    have hp2 : 2 ^ m ≤ w := Nat.le_trans (Nat.pow_le_pow_right (by decide) (by omega)) hp
    have z := ih n (by omega) (by omega) hp2
    rw [nI_pred]
    refine br_f (nI_pos (by omega)) ?_
    rw [ld_bitY hw (by omega), ld_ix, nI_clamp (by omega)]
    refine ⟨vp_in_nI (by omega) (by decide), nm_r (e' := nI (ld_rn (ld_d aN) s (w / 2 ^ m))) ?_ (nm_r (ld_sm1 (nI m)) z)⟩
    rw [ld_step _ _ _ _ hp]
    exact (ld_tab_d hM.1 (Nat.le_refl 7) hr hb).1
theorem ld_yrun2 {L : Nat} (hM : ld_M aN aG) (hs : s < 7) (h1 : 2 ^ L ≤ w) (h2 : w < 2 ^ (L + 1)) (hL : L ≤ 11) (h : post (nI (ld_rn (ld_d aN) s w))) : ∀ f j, j ≤ L → L - j < f → wY_run_2 post (nI s) (nI w) fd aN aG fi f (nI j) := by
  have hw := ld_p31 h2 (by omega)
  have hw1 : 1 ≤ w := Nat.le_trans (Nat.two_pow_pos L) h1
  intro f
  induction f with
  | zero => intro j _ h; omega
  | succ f ih =>
    intro j hj hf
    refine br_f (nI_ge (b := 12) (by omega) (by decide)) ?_
    rw [pk_shrN hw (nI j &&& 31) j (s_l j (by omega))]
    by_cases y : j = L
    · subst y
      have e : w / 2 ^ j = 1 := Nat.div_eq_of_lt_le (by omega) (by rw [Nat.pow_succ] at h2; omega)
      rw [e]
      refine br_t (by decide) (nm_e ⟨j + 1, ?_⟩)
      have z := ld_yrun29 (fd := fd) (fi := fi) hM hs hw hw1 h j (j + 1) (by omega) (by omega) h1
      rw [e, ld_rn1] at z
      exact z
    · have hp := Nat.two_pow_pos j
      have h3 : 2 ^ (j + 1) ≤ w := Nat.le_trans (Nat.pow_le_pow_right (by decide) (by omega)) h1
      have h4 : 2 ≤ w / 2 ^ j := (Nat.le_div_iff_mul_le hp).mpr (by rw [Nat.pow_succ] at h3; omega)
      exact br_f (nI_ge (a := 1) (by omega) (Nat.lt_of_le_of_lt (Nat.div_le_self _ _) hw)) (nm_r (nI_1 j) (ih (j + 1) (by omega) (by omega)))
theorem ld_yrun (hM : ld_M aN aG) (hs : s < 7) (hw1 : 1 ≤ w) (hw : w < 2 ^ 12) (h : post (nI (ld_rn (ld_d aN) s w))) : wpY_run post (fd, aN, aG, fi) (nI s) (nI w) := by
  obtain ⟨L, h1, h2⟩ := ld_lg w hw1
  exact ⟨L + 1, ld_yrun2 hM hs h1 h2 (ld_lgk h1 hw) h (L + 1) 0 (by omega) (by omega)⟩
theorem ld_ygood (hM : ld_M aN aG) (hs : s < 7) (hw1 : 1 ≤ w) (hw : w < 2 ^ 12) (h : post (aG (ld_rn (ld_d aN) s w))) : wpY_isGoodAfter post (fd, aN, aG, fi) (nI s) (nI w) := by
  have hr := ld_tab_rn hM.1 (Nat.le_refl 7) hs hw1
  unfold wpY_isGoodAfter
  dsimp only
  refine ld_yrun hM hs hw1 hw ?_
  rw [nI_clamp (by omega)]
  exact ⟨vp_in_nI hr (by decide), ld_nb (hM.2 _ hr), h⟩
theorem ld_yapart2 (hM : ld_M aN aG) (hs : s < 7) (ht : t < 7) (h0 : ld_eq (ld_d aN) aG s t → post 0) (h1 : ∀ v, 1 ≤ v → v < 128 → aG (ld_rn (ld_d aN) s v) ≠ aG (ld_rn (ld_d aN) t v) → (∀ u, 1 ≤ u → u < v → aG (ld_rn (ld_d aN) s u) = aG (ld_rn (ld_d aN) t u)) → post (nI v)) :
    ∀ f v, 1 ≤ v → v ≤ 128 → 128 - v < f → (∀ u, 1 ≤ u → u < v → aG (ld_rn (ld_d aN) s u) = aG (ld_rn (ld_d aN) t u)) → wY_apart_2 post (nI s) (nI t) fd aN aG fi f (nI v) := by
  intro f
  induction f with
  | zero => intro v _ _ h; omega
  | succ f ih =>
    intro v hv hv2 hf hu
    refine pk_le 128 v (fun z => ?_) (fun z => ?_)
    · exact h0 (ld_moore (ld_tab_lt hM.1 (Nat.le_refl 7)) hs ht fun u hu1 hu2 => hu u hu1 (by omega))
    · refine ld_ygood hM hs hv (by omega) (ld_ygood hM ht hv (by omega) ?_)
      by_cases y : aG (ld_rn (ld_d aN) s v) = aG (ld_rn (ld_d aN) t v)
      · refine br_t y (nm_r (nI_1 v) (ih (v + 1) (by omega) (by omega) (by omega) fun u hu1 hu2 => ?_))
        by_cases x : u = v
        · subst x; exact y
        · exact hu u hu1 (by omega)
      · exact br_f y (h1 v hv z y hu)
theorem ld_yapart (hM : ld_M aN aG) (hs : s < 7) (ht : t < 7) (h0 : ld_eq (ld_d aN) aG s t → post 0) (h1 : ∀ v, 1 ≤ v → v < 128 → aG (ld_rn (ld_d aN) s v) ≠ aG (ld_rn (ld_d aN) t v) → (∀ u, 1 ≤ u → u < v → aG (ld_rn (ld_d aN) s u) = aG (ld_rn (ld_d aN) t u)) → post (nI v)) : wpY_apart post (fd, aN, aG, fi) (nI s) (nI t) :=
  ⟨128, ld_yapart2 hM hs ht h0 h1 128 1 (by omega) (by omega) (by omega) (fun u hu1 hu2 => by omega)⟩
theorem ld_ykind2 {m : Nat} {f : Nat → Nat} (hM : ld_M aN aG) (hs : s < 7) (hm : m ≤ 7) (hf : ∀ i, i < m → fi i = nI (f i) ∧ 1 ≤ f i ∧ f i < 2 ^ 12)
    (h1 : ∀ k, k < m → ld_eq (ld_d aN) aG (ld_rn (ld_d aN) 0 (f k)) s → post (nI k)) (h2 : (∀ k, k < m → ¬ ld_eq (ld_d aN) aG (ld_rn (ld_d aN) 0 (f k)) s) → post (-1)) :
    ∀ F k, k ≤ m → m - k < F → (∀ j, j < k → ¬ ld_eq (ld_d aN) aG (ld_rn (ld_d aN) 0 (f j)) s) → wY_kindOf_2 post (nI s) (nI m) aN aG fi F (nI k) := by
  intro F
  induction F with
  | zero => intro k _ h; omega
  | succ F ih =>
    intro k hk hF hno
    refine pk_le m k (fun z => ?_) (fun z => ?_)
    · exact h2 fun j hj => hno j (by omega)
    · obtain ⟨f1, f2, f3⟩ := hf k z
      refine ⟨vp_in_nI (by omega) (by decide), ?_⟩
      rw [nI_clamp (by omega), f1]
      refine ld_yrun (s := 0) hM (by decide) f2 f3 ?_
      refine ld_yapart hM (ld_tab_rn hM.1 (Nat.le_refl 7) (by decide) f2) hs (fun e => br_t rfl (h1 k z e)) (fun v hv hv2 hd hu => ?_)
      refine br_f (nI_ne0 (by omega) (by omega)) (nm_r (nI_1 k) (ih (k + 1) (by omega) (by omega) fun j hj => ?_))
      by_cases x : j = k
      · subst x; exact fun e => hd (e v hv)
      · exact hno j (by omega)
theorem ld_ykind {m : Nat} {f : Nat → Nat} (hM : ld_M aN aG) (hs : s < 7) (hm : m ≤ 7) (hf : ∀ i, i < m → fi i = nI (f i) ∧ 1 ≤ f i ∧ f i < 2 ^ 12)
    (h1 : ∀ k, k < m → ld_eq (ld_d aN) aG (ld_rn (ld_d aN) 0 (f k)) s → post (nI k)) (h2 : (∀ k, k < m → ¬ ld_eq (ld_d aN) aG (ld_rn (ld_d aN) 0 (f k)) s) → post (-1)) : wpY_kindOf post (nI m, aN, aG, fi) (nI s) :=
  ⟨m + 1, ld_ykind2 hM hs hm hf h1 h2 (m + 1) 0 (by omega) (by omega) (fun j hj => by omega)⟩
end
section
variable {aN aG : Nat → Int32} {post : SY → Prop} {n : Nat} {f : Nat → Nat}
theorem ld_ydiv7 (hM : ld_M aN aG) (hEM : ld_EM aN aG n f) (h : ∀ fi, (∀ i, i < n → fi i = nI (f i)) → post (nI n, aN, aG, fi)) :
    ∀ F w, 1 ≤ w → w ≤ 128 → 128 - w < F → ∀ m fi, m ≤ n → (∀ i, i < m → fi i = nI (f i) ∧ f i < w) → (∀ i, m ≤ i → i < n → w ≤ f i) → wY_divide_7 post F (nI w) (nI m) aN aG fi := by
  obtain ⟨⟨hn1, hn7⟩, hf, hasc, hcov⟩ := id hEM
  intro F
  induction F with
  | zero => intro w _ _ h; omega
  | succ F ih =>
    intro w hw hw2 hF m fi hm hlo hhi
    refine pk_le 128 w (fun z => ?_) (fun z => ?_)
    · have : m = n := by
        rcases Nat.lt_or_ge m n with x | x
        · have := hhi m (Nat.le_refl m) x
          have := (hf m x).2
          omega
        · omega
      subst this
      exact h fi fun i hi => (hlo i hi).1
    · have hs := ld_tab_rn hM.1 (Nat.le_refl 7) (s := 0) (by decide) hw
      refine ld_yrun (s := 0) hM (by decide) hw (by omega) ?_
      refine ld_ykind (f := f) hM hs (by omega) (fun i hi => ⟨(hlo i hi).1, (hf i (by omega)).1, by have := (hf i (by omega)).2; omega⟩) (fun k hk e => ?_) (fun hno => ?_)
      · refine br_t (nI_pos' (by omega)) (nm_r (nI_1 w) (ih (w + 1) (by omega) (by omega) (by omega) m fi hm (fun i hi => ⟨(hlo i hi).1, by have := (hlo i hi).2; omega⟩) fun i hi hin => ?_))
        have h3 := hhi i hi hin
        have h4 : f i ≠ w := by
          intro x
          rw [← x] at e
          exact (hasc k i (by omega) hin).2 e
        omega
      · obtain ⟨i, hi, hle, e⟩ := hcov w hw
        have him : m ≤ i := by
          rcases Nat.lt_or_ge i m with x | x
          · exact absurd e (hno i x)
          · exact x
        have h3 := hhi i him hi
        have him2 : i = m := by
          rcases Nat.lt_or_ge m i with x | x
          · have h4 := hhi m (Nat.le_refl m) (by omega)
            have h5 := (hasc m i x hi).1
            omega
          · omega
        subst him2
        have hw3 : f i = w := by omega
        refine br_f (by decide) ⟨vp_in_nI (by omega) (by decide), nm_e (nm_r (nI_1 i) (nm_r (nI_1 w) ?_))⟩
        rw [nI_clamp (by omega)]
        refine ih (w + 1) (by omega) (by omega) (by omega) (i + 1) _ (by omega) (fun j hj => ?_) (fun j hj hjn => ?_)
        · by_cases x : j = i
          · subst x; rw [pk_us, hw3]; exact ⟨rfl, by omega⟩
          · rw [pk_un x]
            have := hlo j (by omega)
            exact ⟨this.1, by omega⟩
        · have h4 := (hasc i j (by omega) hjn).1
          omega
theorem ld_ydiv {fd : Int32} {fi : Nat → Int32} (hM : ld_M aN aG) (hEM : ld_EM aN aG n f) (h : ∀ fi, (∀ i, i < n → fi i = nI (f i)) → post (nI n, aN, aG, fi)) : wpY_divide post (fd, aN, aG, fi) :=
  ⟨128, ld_ydiv7 hM hEM h 128 1 (by omega) (by omega) (by omega) 0 fi (by omega) (fun i hi => by omega) (fun i _ hi => (hEM.2.1 i hi).1)⟩
end
end
section
/-! the relation, and what the owed statements share -/
/-- both hold the same machine, well formed; and the class has not learned it, or knows it -/
def i_Rel (k : Nat) (u : SX) (v : SY) : Prop := match u, v with
  | (lrn, rws, eds, qe, aN, aG, aB, aA, aE, gN, aS, qP, qW, rK, kR, fW), (fd, bN, bG, fi) => bN = aN ∧ bG = aG ∧ ld_M aN aG ∧ ld_KN aN aG lrn rws aA gN rK kR fW
theorem i_up {k : Nat} {u : SX} {v : SY} (h : i_Rel k u v) : i_Rel (k + 4) u v := h
theorem ld_in {k : Nat} {lrn rws eds qe fd : Int32} {aN aG aB aA aE gN aS qP qW rK kR fW fi : Nat → Int32} (hM : ld_M aN aG) (hK : ld_KN aN aG lrn rws aA gN rK kR fW) : i_Rel k (lrn, rws, eds, qe, aN, aG, aB, aA, aE, gN, aS, qP, qW, rK, kR, fW) (fd, aN, aG, fi) := And.intro rfl (And.intro rfl (And.intro hM hK))
theorem ld_el {k : Nat} {P : SX → SY → Prop} (h : ∀ lrn rws eds qe aN aG aB aA aE gN aS qP qW rK kR fW fd fi, ld_M aN aG → ld_KN aN aG lrn rws aA gN rK kR fW → P (lrn, rws, eds, qe, aN, aG, aB, aA, aE, gN, aS, qP, qW, rK, kR, fW) (fd, aN, aG, fi)) {u : SX} {v : SY} (I : i_Rel k u v) : P u v := by
  obtain ⟨lrn, rws, eds, qe, aN, aG, aB, aA, aE, gN, aS, qP, qW, rK, kR, fW⟩ := u
  obtain ⟨fd, bN, bG, fi⟩ := v
  obtain ⟨e1, e2, hM, hK⟩ := I
  cases e1
  cases e2
  exact h lrn rws eds qe aN aG aB aA aE gN aS qP qW rK kR fW fd fi hM hK
/-! the constructors -/
def ld_it : Nat → Nat → Int32
  | 0 => fun _ => 0
  | j + 1 => upd (upd (ld_it j) (2 * j) (nI j)) (2 * j + 1) (nI j)
theorem ld_it_v : ∀ j s l, s < j → l < 2 → ld_it j (2 * s + l) = nI s := by
  intro j
  induction j with
  | zero => intro s l h; omega
  | succ j ih =>
    intro s l hs hl
    show upd (upd (ld_it j) (2 * j) (nI j)) (2 * j + 1) (nI j) (2 * s + l) = nI s
    by_cases a : 2 * s + l = 2 * j + 1
    · have : s = j := by omega
      subst this
      rw [a, pk_us]
    · rw [pk_un a]
      by_cases b : 2 * s + l = 2 * j
      · have : s = j := by omega
        subst this
        rw [b, pk_us]
      · rw [pk_un b]
        exact ih s l (by omega) hl
theorem ld_it_M : ld_M (ld_it 7) (fun _ => 0) := And.intro (fun s l hs hl => ⟨s, hs, ld_it_v 7 s l hs hl⟩) (fun _ _ => Or.inl rfl)
theorem ld_2m (j : Nat) : 2 * nI j = nI (2 * j) := pk_mul 2 j
section
variable {lrn rws eds qe fd : Int32} {aG aB aA aE gN aS qP qW rK kR fW fi : Nat → Int32}
theorem ld_xinit {post : SX → Prop} (h : post (lrn, rws, eds, qe, (ld_it 7), aG, aB, aA, aE, gN, aS, qP, qW, rK, kR, fW)) : ∀ f j, j ≤ 7 → 7 - j < f → wX_init_102 post lrn rws eds qe f (nI j) (ld_it j) aG aB aA aE gN aS qP qW rK kR fW := by
  intro f
  induction f with
  | zero => intro j _ h; omega
  | succ f ih =>
    intro j hj hf
    refine pk_le 7 j (fun z => ?_) (fun z => ?_)
    · have : j = 7 := by omega
      subst this
      exact h
    · rw [ld_2m, nI_1, nI_clamp (by omega), nI_clamp (by omega)]
      exact ⟨vp_in_nI (by omega) (by decide), nm_e ⟨vp_in_nI (by omega) (by decide), nm_e (nm_r (nI_1 j) (ih (j + 1) (by omega) (by omega)))⟩⟩
theorem ld_yinit {post : SY → Prop} (h : post (fd, ld_it 7, aG, fi)) : ∀ f j, j ≤ 7 → 7 - j < f → wY_init_30 post fd f (nI j) (ld_it j) aG fi := by
  intro f
  induction f with
  | zero => intro j _ h; omega
  | succ f ih =>
    intro j hj hf
    refine pk_le 7 j (fun z => ?_) (fun z => ?_)
    · have : j = 7 := by omega
      subst this
      exact h
    · rw [ld_2m, nI_1, nI_clamp (by omega), nI_clamp (by omega)]
      exact ⟨vp_in_nI (by omega) (by decide), nm_e ⟨vp_in_nI (by omega) (by decide), nm_e (nm_r (nI_1 j) (ih (j + 1) (by omega) (by omega)))⟩⟩
end
/-! checks of arguments -/
theorem ld_ybsN {post : Int32 → Prop} {x : Int32} (h : x < 0) (p : post 1) : wpY_badState post x := br_t h p
theorem ld_ybsP {post : Int32 → Prop} {i : Nat} (hi : i < 2 ^ 31) (p0 : i ≤ 6 → post 0) (p1 : 6 < i → post 1) : wpY_badState post (nI i) := br_f (nI_pos hi) (pk_le i 6 p0 p1)
def ld_wd (x : Int32) : Prop := ∃ j, 1 ≤ j ∧ j ≤ 4095 ∧ x = nI j
theorem ld_isWt {post : Int32 → Prop} {j : Nat} (h1 : 1 ≤ j) (h2 : j ≤ 4095) (h : post 1) : wpX_isWord post (nI j) := ld_isW (fun hno => absurd rfl (hno j h1 h2)) (fun _ _ _ _ => h)
theorem ld_isWf {post : Int32 → Prop} {x : Int32} (hn : ¬ ld_wd x) (h : post 0) : wpX_isWord post x := ld_isW (fun _ => h) (fun j h1 h2 e => absurd ⟨j, h1, h2, e⟩ hn)
theorem ld_ybt {post : Int32 → Prop} {j : Nat} (h1 : 1 ≤ j) (h2 : j ≤ 4095) (h : post 0) : wpY_bad post (nI j) := br_f (nI_nlt (b := 1) h1 (by omega)) (br_t (nI_le (b := 4095) h2 (by decide)) h)
theorem ld_ybf {post : Int32 → Prop} {x : Int32} (hn : ¬ ld_wd x) (h : post 1) : wpY_bad post x := by
  by_cases a : x < 1
  · exact br_t a h
  · refine br_f a ?_
    have hx : ¬ x < 0 := fun z => a (Int32.lt_trans z (by decide))
    obtain ⟨j, hj, rfl⟩ := nI_of hx
    refine pk_le j 4095 (fun z => ?_) (fun _ => h)
    have hj1 : 1 ≤ j := by
      rcases Nat.lt_or_ge j 1 with y | y
      · exact absurd (nI_lt (b := 1) y (by decide)) a
      · exact y
    exact absurd ⟨j, hj1, z, rfl⟩ hn
section
variable {aN aG aA gN rK kR fW : Nat → Int32} {n : Nat} {s p f : Nat → Nat}
theorem ld_LF_val (h : ld_LF aN aG n s p f aA gN rK kR fW) {w v : Nat} (hw : 1 ≤ w) (hv : 1 ≤ v) : aA (ld_rn (ld_d gN) (ld_rn (ld_d gN) 0 w) v) &&& 1 = aG (ld_rn (ld_d aN) (ld_rn (ld_d aN) 0 w) v) := by
  rw [← ld_rn_cat _ _ hw v hv, ← ld_rn_cat _ _ hw v hv]
  have z := ld_LF_row h _ (ld_cat_pos hw v hv)
  rw [(h.2.2.1 _ z.1).2]
  exact ld_eq_g z.2
theorem ld_LF_k (h : ld_LF aN aG n s p f aA gN rK kR fW) {i : Nat} (hi : i < n) : rK i = nI (p i) ∧ fW i = nI (f i) ∧ kR (p i) = nI i := (h.2.2.2.2.2.2.2.1 i hi).2
/-- the reference's kindOf gives the class's kind of the row that the word reaches -/
theorem ld_ykind_w {post : Int32 → Prop} {fi : Nat → Int32} (hM : ld_M aN aG) (h : ld_LF aN aG n s p f aA gN rK kR fW) (hf : ∀ i, i < n → fi i = nI (f i)) {w j : Nat} (hw : 1 ≤ w) (hj : j < n) (e : p j = ld_rn (ld_d gN) 0 w) (hp : post (nI j)) : wpY_kindOf post (nI n, aN, aG, fi) (nI (ld_rn (ld_d aN) 0 w)) := by
  have hk := ld_LF_kind h hw hj e
  refine ld_ykind (f := f) hM (ld_tab_rn hM.1 (Nat.le_refl 7) (by decide) hw) h.1.2 (fun i hi => ⟨hf i hi, (ld_LF_f h hi).1.1, by have := (ld_LF_f h hi).1.2.1; omega⟩) (fun k hkn ek => ?_) (fun hno => absurd hk (hno j hj))
  have : k = j := ld_EM_ne (ld_LF_EM h) hkn hj (ld_eq_tr ek (ld_eq_sym hk))
  subst this
  exact hp
end
end
section
theorem i_vc0 : wpX_init (fun u => wpY_init (fun v => i_Rel 0 u v)) :=
  ⟨8, ld_xinit (post := fun u => wpY_init (fun v => i_Rel 0 u v)) ⟨8, ld_yinit (post := fun v => i_Rel 0 _ v) (ld_in ld_it_M (Or.inl rfl)) 8 0 (by decide) (by decide)⟩ 8 0 (by decide) (by decide)⟩
theorem i_vc_arrow {k : Nat} {u : SX} {v : SY} (I : i_Rel k u v) (hk : k + 4 ≤ 2048) (v1 : Int32) (v2 : Int32) (v3 : Int32) : wpX_arrow (fun r u' => wpY_arrow (fun r' v' => r' = r ∧ i_Rel (k + 4) u' v') v v1 v2 v3) u v1 v2 v3 := by
  refine ld_el (P := fun u v => wpX_arrow (fun r u' => wpY_arrow (fun r' v' => r' = r ∧ i_Rel (k + 4) u' v') v v1 v2 v3) u v1 v2 v3) ?_ I
  intro lrn rws eds qe aN aG aB aA aE gN aS qP qW rK kR fW fd fi hM hK
  unfold wpX_arrow
  dsimp only
  by_cases a : v1 < 0
  · refine br_t a ?_
    unfold wpY_arrow
    dsimp only
    exact ld_ybsN a (br_f (by decide) ⟨rfl, ld_in hM hK⟩)
  · obtain ⟨i, hi, rfl⟩ := nI_of a
    refine br_f a (pk_lt 6 i (fun h => ?_) (fun h => ?_))
    · unfold wpY_arrow
      dsimp only
      exact ld_ybsP hi (fun z => by omega) (fun _ => br_f (by decide) ⟨rfl, ld_in hM hK⟩)
    · by_cases c : v3 < 0
      · refine br_t c ?_
        unfold wpY_arrow
        dsimp only
        exact ld_ybsP hi (fun _ => br_t rfl (ld_ybsN c (br_f (by decide) ⟨rfl, ld_in hM hK⟩))) (fun z => by omega)
      · obtain ⟨j, hj, rfl⟩ := nI_of c
        refine br_f c (pk_le j 6 (fun h2 => ?_) (fun h2 => ?_))
        · obtain ⟨l, hl, el⟩ := pk_andE v2 (m := 1) 1 (by decide)
          rw [el, ld_ix, nI_clamp (by omega)]
          refine ⟨vp_in_nI (by omega) (by decide), nm_e ?_⟩
          unfold wpY_arrow
          dsimp only
          refine ld_ybsP hi (fun _ => br_t rfl (ld_ybsP hj (fun _ => br_t rfl ?_) (fun z => by omega))) (fun z => by omega)
          rw [el, ld_ix, nI_clamp (by omega)]
          refine ⟨vp_in_nI (by omega) (by decide), nm_e ⟨rfl, ld_in (And.intro (fun s m hs hm => ?_) hM.2) (Or.inl rfl)⟩⟩
          by_cases y : 2 * s + m = 2 * i + l
          · rw [y, pk_us]; exact ⟨j, by omega, rfl⟩
          · rw [pk_un y]; exact hM.1 s m hs hm
        · unfold wpY_arrow
          dsimp only
          exact ld_ybsP hi (fun _ => br_t rfl (ld_ybsP hj (fun z => by omega) (fun _ => br_f (by decide) ⟨rfl, ld_in hM hK⟩))) (fun z => by omega)
theorem i_vc_good {k : Nat} {u : SX} {v : SY} (I : i_Rel k u v) (hk : k + 4 ≤ 2048) (v1 : Int32) (v2 : Int32) : wpX_good (fun r u' => wpY_good (fun r' v' => r' = r ∧ i_Rel (k + 4) u' v') v v1 (lw_bz v2)) u v1 (lw_bz v2) := by
  refine ld_el (P := fun u v => wpX_good (fun r u' => wpY_good (fun r' v' => r' = r ∧ i_Rel (k + 4) u' v') v v1 (lw_bz v2)) u v1 (lw_bz v2)) ?_ I
  intro lrn rws eds qe aN aG aB aA aE gN aS qP qW rK kR fW fd fi hM hK
  unfold wpX_good
  dsimp only
  by_cases a : v1 < 0
  · refine br_t a ?_
    unfold wpY_good
    dsimp only
    exact ld_ybsN a (br_f (by decide) ⟨rfl, ld_in hM hK⟩)
  · obtain ⟨i, hi, rfl⟩ := nI_of a
    have e : vp_nar .boolean (lw_bz v2) = lw_bz v2 := by rcases lw_bz_01 v2 with h | h <;> rw [h] <;> rfl
    refine br_f a (pk_le i 6 (fun h => ?_) (fun h => ?_))
    · rw [nI_clamp hi]
      refine ⟨vp_in_nI (by omega) (by decide), nm_e ?_⟩
      unfold wpY_good
      dsimp only
      refine ld_ybsP hi (fun _ => br_t rfl ?_) (fun z => by omega)
      rw [nI_clamp hi]
      refine ⟨vp_in_nI (by omega) (by decide), nm_e ⟨rfl, ld_in (And.intro hM.1 (fun j hj => ?_)) (Or.inl rfl)⟩⟩
      rw [e]
      by_cases y : j = i
      · rw [y, pk_us]; exact lw_bz_01 v2
      · rw [pk_un y]; exact hM.2 j hj
    · unfold wpY_good
      dsimp only
      exact ld_ybsP hi (fun z => by omega) (fun _ => br_f (by decide) ⟨rfl, ld_in hM hK⟩)
theorem i_vc_ask {k : Nat} {u : SX} {v : SY} (I : i_Rel k u v) (hk : k + 4 ≤ 2048) (v1 : Int32) : wpX_ask (fun r => wpY_ask (fun r' => r' = r ∧ i_Rel (k + 4) u v) v v1) u v1 := by
  refine ld_el (P := fun u v => wpX_ask (fun r => wpY_ask (fun r' => r' = r ∧ i_Rel (k + 4) u v) v v1) u v1) ?_ I
  intro lrn rws eds qe aN aG aB aA aE gN aS qP qW rK kR fW fd fi hM hK
  unfold wpX_ask wpY_ask
  dsimp only
  by_cases hW : ld_wd v1
  · obtain ⟨j, h1, h2, rfl⟩ := hW
    refine ld_isWt h1 h2 (br_f (by decide) (ld_good hM (by omega) h1 ?_))
    by_cases y : aG (ld_rn (ld_d aN) 0 j) = 0
    · exact br_t y (ld_ybt h1 h2 (br_t rfl (ld_ygood (s := 0) hM (by decide) h1 (by omega) (br_t y ⟨rfl, ld_in hM hK⟩))))
    · exact br_f y (ld_ybt h1 h2 (br_t rfl (ld_ygood (s := 0) hM (by decide) h1 (by omega) (br_f y ⟨rfl, ld_in hM hK⟩))))
  · exact ld_isWf hW (br_t rfl (ld_ybf hW (br_f (by decide) ⟨rfl, ld_in hM hK⟩)))
theorem i_vc_kinds {k : Nat} {u : SX} {v : SY} (I : i_Rel k u v) (hk : k + 4 ≤ 2048) : wpX_kinds (fun r u' => wpY_kinds (fun r' v' => r' = r ∧ i_Rel (k + 4) u' v') v) u := by
  refine ld_el (P := fun u v => wpX_kinds (fun r u' => wpY_kinds (fun r' v' => r' = r ∧ i_Rel (k + 4) u' v') v) u) ?_ I
  intro lrn rws eds qe aN aG aB aA aE gN aS qP qW rK kR fW fd fi hM hK
  unfold wpX_kinds
  dsimp only
  refine ld_learn hM hK (fun n s p f eds qe aB aA aE gN aS qP qW rK kR fW hL => ?_)
  dsimp only
  unfold wpY_kinds
  dsimp only
  refine ld_ydiv hM (ld_LF_EM hL) (fun fi hfi => ?_)
  dsimp only
  exact ⟨rfl, ld_in hM (Or.inr ⟨rfl, n, s, p, f, rfl, hL⟩)⟩
theorem i_vc_kind {k : Nat} {u : SX} {v : SY} (I : i_Rel k u v) (hk : k + 4 ≤ 2048) (v1 : Int32) : wpX_kind (fun r u' => wpY_kind (fun r' v' => r' = r ∧ i_Rel (k + 4) u' v') v v1) u v1 := by
  refine ld_el (P := fun u v => wpX_kind (fun r u' => wpY_kind (fun r' v' => r' = r ∧ i_Rel (k + 4) u' v') v v1) u v1) ?_ I
  intro lrn rws eds qe aN aG aB aA aE gN aS qP qW rK kR fW fd fi hM hK
  unfold wpX_kind
  dsimp only
  by_cases hW : ld_wd v1
  · obtain ⟨w, h1, h2, rfl⟩ := hW
    refine ld_isWt h1 h2 (br_f (by decide) ?_)
    refine ld_learn hM hK (fun n s p f eds qe aB aA aE gN aS qP qW rK kR fW hL => ?_)
    dsimp only
    obtain ⟨L, g1, g2⟩ := ld_lg w h1
    have hLL : L ≤ 11 := ld_lgk g1 (by omega)
    have hr := (ld_LF_row hL w h1).1
    have hn7 := hL.1.2
    obtain ⟨j, hj, ej, _⟩ := ld_bf_all hL.2.2.2.2.2.2.1 (Nat.le_refl n) w h1
    refine ld_len g1 g2 (by omega) (ld_after hL.2.1 hn7 hL.1.1 g1 g2 (by omega) (Nat.le_refl L) ?_)
    rw [Nat.sub_self, Nat.pow_zero, Nat.div_one, nI_clamp (by omega)]
    refine ⟨vp_in_nI (by omega) (by decide), ?_⟩
    rw [← ej, (ld_LF_k hL hj).2.2]
    unfold wpY_kind
    dsimp only
    refine ld_ybt h1 h2 (br_t rfl ?_)
    refine ld_ydiv hM (ld_LF_EM hL) (fun fi hfi => ?_)
    dsimp only
    refine ld_yrun (s := 0) hM (by decide) h1 (by omega) ?_
    exact ld_ykind_w hM hL hfi h1 hj ej ⟨rfl, ld_in hM (Or.inr ⟨rfl, n, s, p, f, rfl, hL⟩)⟩
  · refine ld_isWf hW (br_t rfl ?_)
    unfold wpY_kind
    dsimp only
    exact ld_ybf hW (br_f (by decide) ⟨rfl, ld_in hM hK⟩)
theorem i_vc_first {k : Nat} {u : SX} {v : SY} (I : i_Rel k u v) (hk : k + 4 ≤ 2048) (v1 : Int32) : wpX_first (fun r u' => wpY_first (fun r' v' => r' = r ∧ i_Rel (k + 4) u' v') v v1) u v1 := by
  refine ld_el (P := fun u v => wpX_first (fun r u' => wpY_first (fun r' v' => r' = r ∧ i_Rel (k + 4) u' v') v v1) u v1) ?_ I
  intro lrn rws eds qe aN aG aB aA aE gN aS qP qW rK kR fW fd fi hM hK
  unfold wpX_first wpY_first
  dsimp only
  refine ld_learn hM hK (fun n s p f eds qe aB aA aE gN aS qP qW rK kR fW hL => ?_)
  dsimp only
  have hn7 := hL.1.2
  by_cases a : v1 < 0
  · refine br_t a (ld_ydiv hM (ld_LF_EM hL) (fun fi hfi => ?_))
    dsimp only
    exact br_t a ⟨rfl, ld_in hM (Or.inr ⟨rfl, n, s, p, f, rfl, hL⟩)⟩
  · obtain ⟨i, hi, rfl⟩ := nI_of a
    refine br_f a (pk_lt i n (fun h => ?_) (fun h => ?_))
    · refine ⟨vp_in_nI (by omega) (by decide), ld_ydiv hM (ld_LF_EM hL) (fun fi hfi => ?_)⟩
      dsimp only
      refine br_f a (br_t (nI_lt h (by omega)) ⟨vp_in_nI (by omega) (by decide), ?_, ld_in hM (Or.inr ⟨rfl, n, s, p, f, rfl, hL⟩)⟩)
      rw [nI_clamp hi, hfi i h, (ld_LF_k hL h).2.1]
    · refine ld_ydiv hM (ld_LF_EM hL) (fun fi hfi => ?_)
      dsimp only
      exact br_f a (br_f (nI_nlt h hi) ⟨rfl, ld_in hM (Or.inr ⟨rfl, n, s, p, f, rfl, hL⟩)⟩)
theorem i_vc_next {k : Nat} {u : SX} {v : SY} (I : i_Rel k u v) (hk : k + 4 ≤ 2048) (v1 : Int32) (v2 : Int32) : wpX_next (fun r u' => wpY_next (fun r' v' => r' = r ∧ i_Rel (k + 4) u' v') v v1 v2) u v1 v2 := by
  refine ld_el (P := fun u v => wpX_next (fun r u' => wpY_next (fun r' v' => r' = r ∧ i_Rel (k + 4) u' v') v v1 v2) u v1 v2) ?_ I
  intro lrn rws eds qe aN aG aB aA aE gN aS qP qW rK kR fW fd fi hM hK
  unfold wpX_next wpY_next
  dsimp only
  refine ld_learn hM hK (fun n s p f eds qe aB aA aE gN aS qP qW rK kR fW hL => ?_)
  dsimp only
  have hn7 := hL.1.2
  by_cases a : v1 < 0
  · refine br_t a (ld_ydiv hM (ld_LF_EM hL) (fun fi hfi => ?_))
    dsimp only
    exact br_t a ⟨rfl, ld_in hM (Or.inr ⟨rfl, n, s, p, f, rfl, hL⟩)⟩
  · obtain ⟨i, hi, rfl⟩ := nI_of a
    refine br_f a (pk_lt i n (fun h => ?_) (fun h => ?_))
    · obtain ⟨l, hl, el⟩ := pk_andE v2 (m := 1) 1 (by decide)
      obtain ⟨⟨f1, f2, f3⟩, f4⟩ := ld_LF_f hL h
      obtain ⟨g1, g2⟩ := ld_tab_d hL.2.1 hn7 f4 hl
      obtain ⟨j, hj, ej, _⟩ := hL.2.2.2.2.2.2.1.2.2.2.2 i l h hl (by omega)
      rw [el, nI_clamp hi, (ld_LF_k hL h).1, ld_ix, nI_clamp (show 2 * p i + l < 2 ^ 31 by omega), g1, nI_clamp (show ld_d gN (p i) l < 2 ^ 31 by omega), ← ej, (ld_LF_k hL hj).2.2]
      refine ⟨vp_in_nI (by omega) (by decide), vp_in_nI (by omega) (by decide), vp_in_nI (by omega) (by decide), ?_⟩
      refine ld_ydiv hM (ld_LF_EM hL) (fun fi hfi => ?_)
      dsimp only
      refine br_f a (br_t (nI_lt h (by omega)) ⟨vp_in_nI (by omega) (by decide), ?_⟩)
      rw [hfi i h, ld_ix]
      refine ld_yrun (s := 0) hM (by decide) (by omega) (by omega) ?_
      exact ld_ykind_w hM hL hfi (by omega) hj (by rw [ld_rnS _ _ _ _ f1 hl, f3]; exact ej) ⟨rfl, ld_in hM (Or.inr ⟨rfl, n, s, p, f, rfl, hL⟩)⟩
    · refine ld_ydiv hM (ld_LF_EM hL) (fun fi hfi => ?_)
      dsimp only
      exact br_f a (br_f (nI_nlt h hi) ⟨rfl, ld_in hM (Or.inr ⟨rfl, n, s, p, f, rfl, hL⟩)⟩)
theorem i_vc_isGood {k : Nat} {u : SX} {v : SY} (I : i_Rel k u v) (hk : k + 4 ≤ 2048) (v1 : Int32) : wpX_isGood (fun r u' => wpY_isGood (fun r' v' => r' = r ∧ i_Rel (k + 4) u' v') v v1) u v1 := by
  refine ld_el (P := fun u v => wpX_isGood (fun r u' => wpY_isGood (fun r' v' => r' = r ∧ i_Rel (k + 4) u' v') v v1) u v1) ?_ I
  intro lrn rws eds qe aN aG aB aA aE gN aS qP qW rK kR fW fd fi hM hK
  unfold wpX_isGood wpY_isGood
  dsimp only
  refine ld_learn hM hK (fun n s p f eds qe aB aA aE gN aS qP qW rK kR fW hL => ?_)
  dsimp only
  have hn7 := hL.1.2
  by_cases a : v1 < 0
  · refine br_t a (ld_ydiv hM (ld_LF_EM hL) (fun fi hfi => ?_))
    dsimp only
    exact br_t a ⟨rfl, ld_in hM (Or.inr ⟨rfl, n, s, p, f, rfl, hL⟩)⟩
  · obtain ⟨i, hi, rfl⟩ := nI_of a
    refine br_f a (pk_lt i n (fun h => ?_) (fun h => ?_))
    · obtain ⟨⟨f1, f2, f3⟩, f4⟩ := ld_LF_f hL h
      have val : aA (p i) &&& 1 = aG (ld_rn (ld_d aN) 0 (f i)) := by
        have z := ld_LF_val hL f1 (Nat.le_refl 1)
        rw [ld_rn1, ld_rn1, f3] at z
        exact z
      rw [nI_clamp hi, (ld_LF_k hL h).1, nI_clamp (show p i < 2 ^ 31 by omega), val]
      refine ⟨vp_in_nI (by omega) (by decide), vp_in_nI (by omega) (by decide), ?_⟩
      refine ld_ydiv hM (ld_LF_EM hL) (fun fi hfi => ?_)
      dsimp only
      refine br_f a (br_t (nI_lt h (by omega)) ⟨vp_in_nI (by omega) (by decide), ?_⟩)
      rw [hfi i h]
      refine ld_ygood (s := 0) hM (by decide) f1 (by omega) ?_
      rcases hM.2 _ (ld_tab_rn hM.1 (Nat.le_refl 7) (s := 0) (by decide) f1) with y | y
      · exact br_t y ⟨y.symm, ld_in hM (Or.inr ⟨rfl, n, s, p, f, rfl, hL⟩)⟩
      · exact br_f (by rw [y]; decide) ⟨y.symm, ld_in hM (Or.inr ⟨rfl, n, s, p, f, rfl, hL⟩)⟩
    · refine ld_ydiv hM (ld_LF_EM hL) (fun fi hfi => ?_)
      dsimp only
      exact br_f a (br_f (nI_nlt h hi) ⟨rfl, ld_in hM (Or.inr ⟨rfl, n, s, p, f, rfl, hL⟩)⟩)
theorem i_vc_difference {k : Nat} {u : SX} {v : SY} (I : i_Rel k u v) (hk : k + 4 ≤ 2048) (v1 : Int32) (v2 : Int32) : wpX_difference (fun r u' => wpY_difference (fun r' => r' = r ∧ i_Rel (k + 4) u' v) v v1 v2) u v1 v2 := by
  refine ld_el (P := fun u v => wpX_difference (fun r u' => wpY_difference (fun r' => r' = r ∧ i_Rel (k + 4) u' v) v v1 v2) u v1 v2) ?_ I
  intro lrn rws eds qe aN aG aB aA aE gN aS qP qW rK kR fW fd fi hM hK
  unfold wpX_difference wpY_difference
  dsimp only
  by_cases hW : ld_wd v1
  · obtain ⟨w, h1, h2, rfl⟩ := hW
    refine ld_isWt h1 h2 (br_f (by decide) ?_)
    by_cases hV : ld_wd v2
    · obtain ⟨w', h1', h2', rfl⟩ := hV
      refine ld_isWt h1' h2' (br_f (by decide) ?_)
      refine ld_learn hM hK (fun n s p f eds qe aB aA aE gN aS qP qW rK kR fW hL => ?_)
      dsimp only
      obtain ⟨L, g1, g2⟩ := ld_lg w h1
      obtain ⟨L', g1', g2'⟩ := ld_lg w' h1'
      have hLL : L ≤ 11 := ld_lgk g1 (by omega)
      have hLL' : L' ≤ 11 := ld_lgk g1' (by omega)
      have hr := (ld_LF_row hL w h1).1
      have hr' := (ld_LF_row hL w' h1').1
      have hn7 := hL.1.2
      have hs := ld_tab_rn hM.1 (Nat.le_refl 7) (s := 0) (by decide) h1
      have hs' := ld_tab_rn hM.1 (Nat.le_refl 7) (s := 0) (by decide) h1'
      refine ld_len g1 g2 (by omega) (ld_len g1' g2' (by omega) ?_)
      refine ld_after hL.2.1 hn7 hL.1.1 g1 g2 (by omega) (Nat.le_refl L) ?_
      refine ld_after hL.2.1 hn7 hL.1.1 g1' g2' (by omega) (Nat.le_refl L') ?_
      rw [Nat.sub_self, Nat.sub_self, Nat.pow_zero, Nat.div_one, Nat.div_one]
      refine ld_df hL.2.1 hn7 hr hr' (fun hall qe aS qP qW => ?_) (fun x hx hd hlow qe aS qP qW => ?_)
      · refine ld_ybt h1 h2 (br_t rfl (ld_ybt h1' h2' (br_t rfl ?_)))
        refine ld_yrun (s := 0) hM (by decide) h1 (by omega) (ld_yrun (s := 0) hM (by decide) h1' (by omega) ?_)
        refine ld_yapart hM hs hs' (fun _ => ⟨rfl, ld_in hM (Or.inr ⟨rfl, n, s, p, f, rfl, hL⟩)⟩) (fun y hy hy2 hdy hly => absurd ?_ hdy)
        have z := hall y hy
        rw [ld_LF_val hL h1 hy, ld_LF_val hL h1' hy] at z
        exact z
      · rw [ld_LF_val hL h1 hx, ld_LF_val hL h1' hx] at hd
        refine ld_ybt h1 h2 (br_t rfl (ld_ybt h1' h2' (br_t rfl ?_)))
        refine ld_yrun (s := 0) hM (by decide) h1 (by omega) (ld_yrun (s := 0) hM (by decide) h1' (by omega) ?_)
        refine ld_yapart hM hs hs' (fun e => absurd (e x hx) hd) (fun y hy hy2 hdy hly => ⟨?_, ld_in hM (Or.inr ⟨rfl, n, s, p, f, rfl, hL⟩)⟩)
        have : y = x := by
          rcases Nat.lt_trichotomy y x with t | t | t
          · have z := hlow y hy t
            rw [ld_LF_val hL h1 hy, ld_LF_val hL h1' hy] at z
            exact absurd z hdy
          · exact t
          · exact absurd (hly x hx t) hd
        rw [this]
    · exact ld_isWf hV (br_t rfl (ld_ybt h1 h2 (br_t rfl (ld_ybf hV (br_f (by decide) ⟨rfl, ld_in hM hK⟩)))))
  · exact ld_isWf hW (br_t rfl (ld_ybf hW (br_f (by decide) ⟨rfl, ld_in hM hK⟩)))
end
