section
/-! rows of kit/rows (starting text): PURE-ROWS, BITS -/
theorem pk_us {f : Nat → Int32} {k : Nat} {x : Int32} : upd f k x k = x := if_pos rfl
theorem pk_un {f : Nat → Int32} {k j : Nat} {x : Int32} (h : j ≠ k) : upd f k x j = f j := if_neg h
theorem pk_uLs {f : Nat → Int64} {k : Nat} {x : Int64} : vp_updL f k x k = x := if_pos rfl
theorem pk_uLn {f : Nat → Int64} {k j : Nat} {x : Int64} (h : j ≠ k) : vp_updL f k x j = f j := if_neg h
theorem pk_sub {a b : Nat} (h : b ≤ a) : nI a - nI b = nI (a - b) := by
  obtain ⟨c, rfl⟩ : ∃ c, a = c + b := ⟨a - b, by omega⟩
  rw [← nI_add, Int32.add_sub_cancel, Nat.add_sub_cancel]
theorem pk_m1 (n : Nat) : nI (n + 1) + (-1) = nI n := by
  rw [← nI_1, Int32.add_assoc, show (1 : Int32) + (-1) = 0 from rfl, Int32.add_zero]
theorem pk_mul (a b : Nat) : nI a * nI b = nI (a * b) := (Int32.ofNat_mul a b).symm
theorem pk_div {a d : Nat} (ha : a < 2 ^ 31) (h0 : 0 < d) (hd : d < 2 ^ 31) : nI a / nI d = nI (a / d) := by
  apply Int32.toInt_inj.mp
  rw [lg_idiv_nonneg (by rw [nI_toInt ha]; omega) (by rw [nI_toInt hd]; omega), nI_toInt ha, nI_toInt hd, nI_toInt (Nat.lt_of_le_of_lt (Nat.div_le_self a d) ha)]
  first | rfl | exact (Int.natCast_ediv _ _).symm
theorem pk_rem {a d : Nat} (ha : a < 2 ^ 31) (h0 : 0 < d) (hd : d < 2 ^ 31) : nI a - nI a / nI d * nI d = nI (a % d) := by
  rw [pk_div ha h0 hd, pk_mul, pk_sub (Nat.div_mul_le_self a d)]
  exact congrArg nI (by have := Nat.div_add_mod' a d; omega)
theorem pk_sub_toInt {a b : Nat} (ha : a < 2 ^ 30) (hb : b < 2 ^ 30) : (nI a - nI b).toInt = (a : Int) - b := by
  rw [Int32.toInt_sub, nI_toInt (by omega), nI_toInt (by omega)]
  exact Int.bmod_eq_of_le (by omega) (by omega)
theorem pk_sneg {a b : Nat} (hb : b < 2 ^ 30) (h : a < b) : nI a - nI b < 0 := by
  rw [Int32.lt_iff_toInt_lt, pk_sub_toInt (by omega) hb, show (0 : Int32).toInt = 0 from by decide]
  omega
theorem pk_ix (x : Int32) {n : Nat} (hn : n < 2 ^ 31) : x < 0 ∨ nI n ≤ x ∨ ∃ j : Nat, j < n ∧ x = nI j := by
  by_cases h : x < 0
  · exact Or.inl h
  · obtain ⟨j, hj, rfl⟩ := nI_of h
    by_cases h2 : j < n
    · exact Or.inr (Or.inr ⟨j, h2, rfl⟩)
    · exact Or.inr (Or.inl (nI_le (by omega) hj))
theorem pk_le {x y : Int32} {A B : Prop} (a b : Nat) (f : a ≤ b → A) (g : b < a → B) (hx : x = nI a := by rfl) (hy : y = nI b := by rfl) (ha : a < 2 ^ 31 := by omega) (hb : b < 2 ^ 31 := by omega) : (x ≤ y → A) ∧ (¬ x ≤ y → B) := by
  subst hx hy
  rw [nI_leI ha hb]
  exact ⟨f, fun z => g (by omega)⟩
theorem pk_lt {x y : Int32} {A B : Prop} (a b : Nat) (f : a < b → A) (g : b ≤ a → B) (hx : x = nI a := by rfl) (hy : y = nI b := by rfl) (ha : a < 2 ^ 31 := by omega) (hb : b < 2 ^ 31 := by omega) : (x < y → A) ∧ (¬ x < y → B) := by
  subst hx hy
  rw [nI_ltI ha hb]
  exact ⟨f, fun z => g (by omega)⟩
theorem pk_eq {x y : Int32} {A B : Prop} (a b : Nat) (f : a = b → A) (g : a ≠ b → B) (hx : x = nI a := by rfl) (hy : y = nI b := by rfl) (ha : a < 2 ^ 31 := by omega) (hb : b < 2 ^ 31 := by omega) : (x = y → A) ∧ (¬ x = y → B) := by
  subst hx hy
  rw [nI_eq ha hb]
  exact ⟨f, g⟩
theorem pk_in {x : Int32} (n N : Nat) (h : n < N) (hx : x = nI n := by rfl) (hN : N < 2 ^ 31 := by omega) : vp_in x N := by
  subst hx
  exact vp_in_nI h hN
theorem pk_cl {x : Int32} (n : Nat) (hx : x = nI n := by rfl) (h : n < 2 ^ 31 := by omega) : x.toNatClampNeg = n := by
  subst hx
  exact nI_clamp h
theorem pk_tn {n : Nat} (h : n < 2 ^ 32) : (nI n).toBitVec.toNat = n := Nat.mod_eq_of_lt h
theorem pk_and (x : Int32) {m : Int32} (k : Nat) (hm : m.toBitVec.toNat = 2 ^ k - 1) : x &&& m = nI (x.toBitVec.toNat % 2 ^ k) := by
  apply Int32.toBitVec_inj.mp
  apply BitVec.eq_of_toNat_eq
  rw [Int32.toBitVec_and, BitVec.toNat_and, hm, Nat.and_two_pow_sub_one_eq_mod]
  show _ = (BitVec.ofNat 32 _).toNat
  rw [BitVec.toNat_ofNat]
  exact (Nat.mod_eq_of_lt (Nat.lt_of_le_of_lt (Nat.mod_le _ _) x.toBitVec.isLt)).symm
theorem pk_andN {n : Nat} (h : n < 2 ^ 32) {m : Int32} (k : Nat) (hm : m.toBitVec.toNat = 2 ^ k - 1) : nI n &&& m = nI (n % 2 ^ k) := by
  rw [pk_and _ k hm, pk_tn h]
theorem pk_andE (x : Int32) {m : Int32} (k : Nat) (hm : m.toBitVec.toNat = 2 ^ k - 1) : ∃ j : Nat, j < 2 ^ k ∧ x &&& m = nI j := ⟨_, Nat.mod_lt _ (Nat.two_pow_pos k), pk_and x k hm⟩
theorem pk_andIn (x : Int32) {m : Int32} (k : Nat) (hm : m.toBitVec.toNat = 2 ^ k - 1) (hk : k ≤ 30) : vp_in (x &&& m) (2 ^ k) := by
  obtain ⟨j, hj, e⟩ := pk_andE x k hm
  rw [e]
  exact vp_in_nI hj (Nat.lt_of_le_of_lt (Nat.pow_le_pow_right (by decide) hk) (by decide))
theorem pk_shl (a s : Int32) (k : Nat) (hs : (s.toBitVec.smod 32).toNat = k) : (a <<< s).toBitVec.toNat = a.toBitVec.toNat * 2 ^ k % 2 ^ 32 := by
  show (a.toBitVec <<< (s.toBitVec.smod 32).toNat).toNat = _
  rw [hs, BitVec.toNat_shiftLeft, Nat.shiftLeft_eq]
theorem pk_shlN {n : Nat} (s : Int32) (k : Nat) (hs : (s.toBitVec.smod 32).toNat = k) (h : n * 2 ^ k < 2 ^ 32) : nI n <<< s = nI (n * 2 ^ k) := by
  apply Int32.toBitVec_inj.mp
  apply BitVec.eq_of_toNat_eq
  have hn : n < 2 ^ 32 := Nat.lt_of_le_of_lt (Nat.le_mul_of_pos_right n (Nat.two_pow_pos k)) h
  rw [pk_shl _ _ k hs, pk_tn hn, pk_tn h, Nat.mod_eq_of_lt h]
theorem pk_shr (a s : Int32) (k : Nat) (hs : (s.toBitVec.smod 32).toNat = k) : (a >>> s).toInt = a.toInt >>> k := by
  show (a.toBitVec.sshiftRight (s.toBitVec.smod 32).toNat).toInt = _
  rw [hs, BitVec.toInt_sshiftRight]
  rfl
theorem pk_shrN {n : Nat} (h : n < 2 ^ 31) (s : Int32) (k : Nat) (hs : (s.toBitVec.smod 32).toNat = k) : nI n >>> s = nI (n / 2 ^ k) := by
  apply Int32.toInt_inj.mp
  have h2 : n / 2 ^ k ≤ n := Nat.div_le_self _ _
  rw [pk_shr _ _ k hs, nI_toInt h, nI_toInt (by omega), Int.shiftRight_eq_div_pow]
  rfl
/-! ===== Int32 by its bits: bt x i ===== -/
def bt (x : Int32) (i : Nat) : Bool := x.toBitVec.getLsbD i
theorem b_ext {x y : Int32} (h : ∀ i, i < 32 → bt x i = bt y i) : x = y := Int32.toBitVec_inj.mp (BitVec.eq_of_getLsbD_eq (fun i hi => h i hi))
theorem b_or (x y : Int32) (i : Nat) : bt (x ||| y) i = (bt x i || bt y i) := by unfold bt; rw [Int32.toBitVec_or, BitVec.getLsbD_or]
theorem b_and (x y : Int32) (i : Nat) : bt (x &&& y) i = (bt x i && bt y i) := by unfold bt; rw [Int32.toBitVec_and, BitVec.getLsbD_and]
theorem b_xor (x y : Int32) (i : Nat) : bt (x ^^^ y) i = (bt x i ^^ bt y i) := by unfold bt; rw [Int32.toBitVec_xor, BitVec.getLsbD_xor]
theorem b_big {x : Int32} {i : Nat} (h : 32 ≤ i) : bt x i = false := BitVec.getLsbD_of_ge _ _ h
theorem b_m1 : ∀ i, i < 32 → bt (-1) i = true := by decide +kernel
theorem b_0 (i : Nat) : bt 0 i = false := BitVec.getLsbD_zero
theorem s_l : ∀ n, n < 32 → ((nI n &&& 31).toBitVec.smod 32).toNat = n := by decide +kernel
theorem s_u : ∀ n, n < 32 → (((nI n).toUInt32 &&& Int32.toUInt32 31).toBitVec % 32).toNat = n := by decide +kernel
theorem b_shl (n : Nat) (hn : n < 32) (x : Int32) {i : Nat} (hi : i < 32) : bt (x <<< (nI n &&& 31)) i = (decide (n ≤ i) && bt x (i - n)) := by
  unfold bt
  rw [Int32.toBitVec_shiftLeft]
  show (x.toBitVec <<< ((nI n &&& 31).toBitVec.smod 32).toNat).getLsbD i = _
  rw [s_l n hn, BitVec.getLsbD_shiftLeft]
  rcases Nat.lt_or_ge i n with h | h
  · simp [h, Nat.not_le.mpr h]
  · simp [hi, h, Nat.not_lt.mpr h]
theorem b_ushr (n : Nat) (hn : n < 32) (x : Int32) (i : Nat) : bt ((x.toUInt32 >>> ((nI n).toUInt32 &&& Int32.toUInt32 31)).toInt32) i = bt x (n + i) := by
  show (x.toUInt32 >>> ((nI n).toUInt32 &&& Int32.toUInt32 31)).toBitVec.getLsbD i = x.toUInt32.toBitVec.getLsbD (n + i)
  rw [UInt32.toBitVec_shiftRight]
  show (x.toUInt32.toBitVec >>> (((nI n).toUInt32 &&& Int32.toUInt32 31).toBitVec % 32).toNat).getLsbD i = _
  rw [s_u n hn, BitVec.getLsbD_ushiftRight]
theorem b_sshr (n : Nat) (hn : n < 32) (x : Int32) {i : Nat} (hi : i < 32) : bt (x >>> (nI n &&& 31)) i = if n + i < 32 then bt x (n + i) else bt x 31 := by
  unfold bt
  rw [Int32.toBitVec_shiftRight]
  show (x.toBitVec.sshiftRight ((nI n &&& 31).toBitVec.smod 32).toNat).getLsbD i = _
  rw [s_l n hn, BitVec.getLsbD_sshiftRight, BitVec.msb_eq_getLsbD_last]
  simp [hi]
theorem pk_least (P : Nat → Prop) (h : ∃ k, P k) : ∃ k, P k ∧ ∀ j, j < k → ¬ P j := by
  obtain ⟨k, hk⟩ := h
  induction k using Nat.strongRecOn with
  | ind k ih =>
    by_cases e : ∃ j, j < k ∧ P j
    · obtain ⟨j, hj, pj⟩ := e
      exact ih j hj pj
    · exact ⟨k, hk, fun j hj pj => e ⟨j, hj, pj⟩⟩
/-! own small rows -/
theorem sf_s1 {n : Nat} (h : 0 < n) : nI n - 1 = nI (n - 1) := by
  obtain ⟨m, rfl⟩ : ∃ m, n = m + 1 := ⟨n - 1, by omega⟩
  exact nI_pred m
theorem sf_m1 {n : Nat} (h : 0 < n) : nI n + (-1) = nI (n - 1) := by
  obtain ⟨m, rfl⟩ : ∃ m, n = m + 1 := ⟨n - 1, by omega⟩
  exact pk_m1 m
theorem sf_le0 {a : Nat} (h : a < 2 ^ 31) : nI a ≤ 0 ↔ a = 0 := by
  rw [← nI_0, nI_leI h (by omega)]; omega
theorem sf_eq0 {a : Nat} (h : a < 2 ^ 31) : nI a = 0 ↔ a = 0 := by
  rw [← nI_0, nI_eq h (by omega)]
theorem sf_0lt {a : Nat} (h : a < 2 ^ 31) : 0 < nI a ↔ 0 < a := by
  rw [← nI_0, nI_ltI (by omega) h]
theorem sf_inj {a b : Nat} (h : nI a = nI b) (ha : a < 2 ^ 31) (hb : b < 2 ^ 31) : a = b := (nI_eq ha hb).mp h
theorem sf_n1lt : (-1 : Int32) < 0 := by decide
theorem sf_n1le : ¬ (0 : Int32) ≤ -1 := by decide
theorem sf_in8 {a : Int32} {n N : Nat} (h : vp_in a n) (hN : n ≤ N) (hb : N < 2 ^ 31) : vp_in a N := by
  obtain ⟨j, hj, rfl⟩ := vp_in_of h (by omega)
  exact vp_in_nI (by omega) hb
theorem sf_cl {a : Int32} {n : Nat} (h : vp_in a n) (hb : n < 2 ^ 31) : a.toNatClampNeg < n ∧ a = nI a.toNatClampNeg := by
  obtain ⟨j, hj, rfl⟩ := vp_in_of h hb
  rw [nI_clamp (by omega)]
  exact ⟨hj, rfl⟩
end
section
/-! the expression machine: operators waiting and operands, over any algebra f -/
abbrev sf_F : Type := Int32 → Int32 → Int32 → Int32
abbrev sf_S : Type := Bool × List Int32 × List Int32
def sf_pc (o : Int32) : Nat := if o = 2 then 5 else if o = 0 then 4 else if o = 1 then 4 else if o = 3 then 3 else if o = 4 then 3 else if o = 5 then 2 else if o = 6 then 1 else 0
def sf_ro (lev : Nat) : List Int32 → List Int32
  | [] => []
  | o :: os => if sf_pc o < lev then o :: os else sf_ro lev os
def sf_po (f : sf_F) (o : Int32) (vs : List Int32) : List Int32 := f o (vs.tail.headD 0) (vs.headD 0) :: vs.tail.tail
def sf_rv (f : sf_F) (lev : Nat) : List Int32 → List Int32 → List Int32
  | [], vs => vs
  | o :: os, vs => if sf_pc o < lev then vs else sf_rv f lev os (sf_po f o vs)
def sf_st (f : sf_F) (t : Int32 × Int32) (s : sf_S) : Option sf_S :=
  if s.2.2 = [] then none
  else if s.1 = true then (if t.1 = 4 then some (true, s.2.1, (-1) :: s.2.2) else if t.1 = 1 then some (false, t.2 :: s.2.1, s.2.2) else none)
  else if t.1 = 3 then some (true, sf_rv f (sf_pc t.2) s.2.2 s.2.1, t.2 :: sf_ro (sf_pc t.2) s.2.2)
  else if t.1 = 5 then some (false, sf_rv f 1 s.2.2 s.2.1, (sf_ro 1 s.2.2).tail)
  else none
def sf_rn (f : sf_F) (T : Nat → Int32 × Int32) : Nat → Nat → sf_S → Option sf_S
  | _, 0, s => some s
  | i, m + 1, s => (sf_st f (T i) s).bind (sf_rn f T (i + 1) m)
theorem sf_rn_0 {f : sf_F} {T : Nat → Int32 × Int32} {i : Nat} {s : sf_S} : sf_rn f T i 0 s = some s := rfl
theorem sf_rn_s {f : sf_F} {T : Nat → Int32 × Int32} {i m : Nat} {s : sf_S} : sf_rn f T i (m + 1) s = (sf_st f (T i) s).bind (sf_rn f T (i + 1) m) := rfl
theorem sf_rn_add {f : sf_F} {T : Nat → Int32 × Int32} : ∀ (a b i : Nat) (s : sf_S), sf_rn f T i (a + b) s = (sf_rn f T i a s).bind (sf_rn f T (i + a) b) := by
  intro a
  induction a with
  | zero => intro b i s; rw [Nat.zero_add, sf_rn_0]; rfl
  | succ a ih =>
    intro b i s
    rw [show a + 1 + b = (a + b) + 1 from by omega, sf_rn_s, sf_rn_s]
    cases h : sf_st f (T i) s with
    | none => rfl
    | some s1 =>
      show sf_rn f T (i + 1) (a + b) s1 = (sf_rn f T (i + 1) a s1).bind (sf_rn f T (i + (a + 1)) b)
      rw [ih, show i + (a + 1) = i + 1 + a from by omega]
theorem sf_rn_snoc {f : sf_F} {T : Nat → Int32 × Int32} (a i : Nat) (s : sf_S) : sf_rn f T i (a + 1) s = (sf_rn f T i a s).bind (sf_st f (T (i + a))) := by
  rw [sf_rn_add]
  congr 1
  funext s1
  rw [sf_rn_s]
  cases sf_st f (T (i + a)) s1 <;> rfl
theorem sf_rn_congr {f : sf_F} {T T' : Nat → Int32 × Int32} : ∀ (m i i' : Nat) (s : sf_S), (∀ j, j < m → T (i + j) = T' (i' + j)) → sf_rn f T i m s = sf_rn f T' i' m s := by
  intro m
  induction m with
  | zero => intro i i' s h; rfl
  | succ m ih =>
    intro i i' s h
    rw [sf_rn_s, sf_rn_s]
    have h0 := h 0 (by omega)
    rw [Nat.add_zero, Nat.add_zero] at h0
    rw [h0]
    congr 1
    funext s1
    apply ih
    intro j hj
    have := h (j + 1) (by omega)
    rw [show i + 1 + j = i + (j + 1) from by omega, show i' + 1 + j = i' + (j + 1) from by omega]
    exact this
theorem sf_st_num {f : sf_F} {v : Int32} {vs os : List Int32} (h : os ≠ []) : sf_st f (1, v) (true, vs, os) = some (false, v :: vs, os) := by
  unfold sf_st
  rw [if_neg h, if_pos rfl, if_neg (show ¬ (1 : Int32) = 4 by decide), if_pos rfl]
theorem sf_st_lp {f : sf_F} {v : Int32} {vs os : List Int32} (h : os ≠ []) : sf_st f (4, v) (true, vs, os) = some (true, vs, (-1) :: os) := by
  unfold sf_st
  rw [if_neg h, if_pos rfl, if_pos rfl]
theorem sf_st_op {f : sf_F} {v : Int32} {vs os : List Int32} (h : os ≠ []) : sf_st f (3, v) (false, vs, os) = some (true, sf_rv f (sf_pc v) os vs, v :: sf_ro (sf_pc v) os) := by
  unfold sf_st
  rw [if_neg h, if_neg (show ¬ false = true by decide), if_pos rfl]
theorem sf_st_rp {f : sf_F} {v : Int32} {vs os : List Int32} (h : os ≠ []) : sf_st f (5, v) (false, vs, os) = some (false, sf_rv f 1 os vs, (sf_ro 1 os).tail) := by
  unfold sf_st
  rw [if_neg h, if_neg (show ¬ false = true by decide), if_neg (show ¬ (5 : Int32) = 3 by decide), if_pos rfl]
theorem sf_st_inv {f : sf_F} {t : Int32 × Int32} {w : Bool} {vs os : List Int32} {s' : sf_S} (h : sf_st f t (w, vs, os) = some s') :
    os ≠ [] ∧ ((w = true ∧ t.1 = 4 ∧ s' = (true, vs, (-1) :: os)) ∨ (w = true ∧ t.1 = 1 ∧ s' = (false, t.2 :: vs, os)) ∨
      (w = false ∧ t.1 = 3 ∧ s' = (true, sf_rv f (sf_pc t.2) os vs, t.2 :: sf_ro (sf_pc t.2) os)) ∨ (w = false ∧ t.1 = 5 ∧ s' = (false, sf_rv f 1 os vs, (sf_ro 1 os).tail))) := by
  unfold sf_st at h
  dsimp only at h
  by_cases h0 : os = []
  · rw [if_pos h0] at h; exact nomatch h
  · rw [if_neg h0] at h
    refine ⟨h0, ?_⟩
    by_cases hw : w = true
    · rw [if_pos hw] at h
      by_cases h4 : t.1 = 4
      · rw [if_pos h4] at h
        exact Or.inl ⟨hw, h4, (Option.some.inj h).symm⟩
      · rw [if_neg h4] at h
        by_cases h1 : t.1 = 1
        · rw [if_pos h1] at h
          exact Or.inr (Or.inl ⟨hw, h1, (Option.some.inj h).symm⟩)
        · rw [if_neg h1] at h; exact nomatch h
    · rw [if_neg hw] at h
      have hw' : w = false := by cases w <;> simp_all
      by_cases h3 : t.1 = 3
      · rw [if_pos h3] at h
        exact Or.inr (Or.inr (Or.inl ⟨hw', h3, (Option.some.inj h).symm⟩))
      · rw [if_neg h3] at h
        by_cases h5 : t.1 = 5
        · rw [if_pos h5] at h
          exact Or.inr (Or.inr (Or.inr ⟨hw', h5, (Option.some.inj h).symm⟩))
        · rw [if_neg h5] at h; exact nomatch h
theorem sf_pcm1 : sf_pc (-1) = 0 := by decide
theorem sf_ro_app {lev : Nat} (hl : 1 ≤ lev) : ∀ (gs os : List Int32), sf_ro lev (gs ++ (-1) :: os) = sf_ro lev gs ++ (-1) :: os := by
  intro gs os
  induction gs with
  | nil =>
    show (if sf_pc (-1) < lev then (-1) :: os else sf_ro lev os) = (-1) :: os
    rw [sf_pcm1, if_pos (by omega)]
  | cons g gs ih =>
    show (if sf_pc g < lev then g :: (gs ++ (-1) :: os) else sf_ro lev (gs ++ (-1) :: os)) = (if sf_pc g < lev then g :: gs else sf_ro lev gs) ++ (-1) :: os
    by_cases h : sf_pc g < lev
    · rw [if_pos h, if_pos h]; rfl
    · rw [if_neg h, if_neg h, ih]
theorem sf_rv_app {f : sf_F} {lev : Nat} (hl : 1 ≤ lev) : ∀ (gs os vs : List Int32), sf_rv f lev (gs ++ (-1) :: os) vs = sf_rv f lev gs vs := by
  intro gs os
  induction gs with
  | nil =>
    intro vs
    show (if sf_pc (-1) < lev then vs else sf_rv f lev os (sf_po f (-1) vs)) = vs
    rw [sf_pcm1, if_pos (by omega)]
  | cons g gs ih =>
    intro vs
    show (if sf_pc g < lev then vs else sf_rv f lev (gs ++ (-1) :: os) (sf_po f g vs)) = (if sf_pc g < lev then vs else sf_rv f lev gs (sf_po f g vs))
    by_cases h : sf_pc g < lev
    · rw [if_pos h, if_pos h]
    · rw [if_neg h, if_neg h, ih]
theorem sf_ro_mem {lev : Nat} {x : Int32} : ∀ (os : List Int32), x ∈ sf_ro lev os → x ∈ os := by
  intro os
  induction os with
  | nil => intro h; exact h
  | cons o os ih =>
    intro h
    have h' : x ∈ (if sf_pc o < lev then o :: os else sf_ro lev os) := h
    by_cases c : sf_pc o < lev
    · rw [if_pos c] at h'; exact h'
    · rw [if_neg c] at h'; exact List.mem_cons_of_mem _ (ih h')
theorem sf_ro_c1 {lev : Nat} {o : Int32} {os : List Int32} (h : sf_pc o < lev) : sf_ro lev (o :: os) = o :: os := if_pos h
theorem sf_ro_c2 {lev : Nat} {o : Int32} {os : List Int32} (h : lev ≤ sf_pc o) : sf_ro lev (o :: os) = sf_ro lev os := if_neg (by omega)
theorem sf_rv_c1 {f : sf_F} {lev : Nat} {o : Int32} {os vs : List Int32} (h : sf_pc o < lev) : sf_rv f lev (o :: os) vs = vs := if_pos h
theorem sf_rv_c2 {f : sf_F} {lev : Nat} {o : Int32} {os vs : List Int32} (h : lev ≤ sf_pc o) : sf_rv f lev (o :: os) vs = sf_rv f lev os (sf_po f o vs) := if_neg (by omega)
/-- the last token of a run that empties the operators is a closing parenthesis -/
theorem sf_rn_last {f : sf_F} {T : Nat → Int32 × Int32} {i m : Nat} {s : sf_S} {w : Bool} {vs : List Int32} (h : sf_rn f T i (m + 1) s = some (w, vs, [])) : (T (i + m)).1 = 5 := by
  rw [sf_rn_snoc] at h
  cases e : sf_rn f T i m s with
  | none => rw [e] at h; exact nomatch h
  | some s1 =>
    obtain ⟨w1, vs1, os1⟩ := s1
    rw [e] at h
    obtain ⟨h0, c | c | c | c⟩ := sf_st_inv h
    · have := congrArg (fun z : sf_S => z.2.2) c.2.2; exact nomatch this
    · have := congrArg (fun z : sf_S => z.2.2) c.2.2; exact absurd this.symm h0
    · have := congrArg (fun z : sf_S => z.2.2) c.2.2; exact nomatch this
    · exact c.2.1
theorem sf_rn_ne {f : sf_F} {T : Nat → Int32 × Int32} {i m : Nat} {w : Bool} {vs os : List Int32} {s' : sf_S} (h : sf_rn f T i (m + 1) (w, vs, os) = some s') : os ≠ [] := by
  rw [sf_rn_s] at h
  cases e : sf_st f (T i) (w, vs, os) with
  | none => rw [e] at h; exact nomatch h
  | some s1 => exact (sf_st_inv e).1
theorem sf_rn_pre {f : sf_F} {T : Nat → Int32 × Int32} {i a b : Nat} {s s' : sf_S} (h : sf_rn f T i (a + b) s = some s') : ∃ s1, sf_rn f T i a s = some s1 ∧ sf_rn f T (i + a) b s1 = some s' := by
  rw [sf_rn_add] at h
  cases e : sf_rn f T i a s with
  | none => rw [e] at h; exact nomatch h
  | some s1 => rw [e] at h; exact ⟨s1, rfl, h⟩
theorem sf_rn_join {f : sf_F} {T : Nat → Int32 × Int32} {i a b : Nat} {s s1 : sf_S} (h : sf_rn f T i a s = some s1) : sf_rn f T i (a + b) s = sf_rn f T (i + a) b s1 := by
  rw [sf_rn_add, h]; rfl
/-- a group without parentheses -/
theorem sf_grp {f : sf_F} {T : Nat → Int32 × Int32} {i : Nat} {vs os : List Int32} : ∀ (m : Nat), (∀ j, j < m → (T (i + j)).1 ≠ 4 ∧ (T (i + j)).1 ≠ 5) → (∀ j, j < m → (T (i + j)).1 = 3 → 1 ≤ sf_pc (T (i + j)).2) →
    ∀ s', sf_rn f T i m (true, vs, (-1) :: os) = some s' →
    s'.1 = decide (m % 2 = 0) ∧ (∃ gs, s'.2.2 = gs ++ (-1) :: os ∧ ∀ g, g ∈ gs → ∃ j, j < m ∧ (T (i + j)).1 = 3 ∧ (T (i + j)).2 = g) ∧ (∀ j, j < m → (T (i + j)).1 = if j % 2 = 0 then 1 else 3) := by
  intro m
  induction m with
  | zero =>
    intro _ _ s' h
    cases h
    exact ⟨rfl, ⟨[], rfl, fun g hg => nomatch hg⟩, fun j hj => absurd hj (by omega)⟩
  | succ m ih =>
    intro hp hop s' h
    rw [sf_rn_snoc] at h
    cases e : sf_rn f T i m (true, vs, (-1) :: os) with
    | none => rw [e] at h; exact nomatch h
    | some s1 =>
      rw [e] at h
      obtain ⟨h1, ⟨gs, h2, h3⟩, h4⟩ := ih (fun j hj => hp j (by omega)) (fun j hj => hop j (by omega)) s1 e
      obtain ⟨w1, vs1, os1⟩ := s1
      dsimp only at h1 h2
      have hm := hp m (by omega)
      obtain ⟨h0, c | c | c | c⟩ := sf_st_inv h
      · exact absurd c.2.1 hm.1
      · obtain ⟨cw, ct, cs⟩ := c
        have hev : m % 2 = 0 := by rw [cw] at h1; exact of_decide_eq_true h1.symm
        subst cs
        refine ⟨(decide_eq_false (by omega)).symm, ⟨gs, h2, fun g hg => ?_⟩, ?_⟩
        · obtain ⟨j, hj, hh⟩ := h3 g hg
          exact ⟨j, by omega, hh⟩
        · intro j hj
          rcases Nat.lt_or_ge j m with hl | hl
          · exact h4 j hl
          · have : j = m := by omega
            subst this
            rw [if_pos hev]; exact ct
      · obtain ⟨cw, ct, cs⟩ := c
        have hod : ¬ m % 2 = 0 := by rw [cw] at h1; exact of_decide_eq_false h1.symm
        subst cs
        refine ⟨(decide_eq_true (by omega)).symm, ⟨(T (i + m)).2 :: sf_ro (sf_pc (T (i + m)).2) gs, ?_, fun g hg => ?_⟩, ?_⟩
        · dsimp only
          rw [h2, sf_ro_app (hop m (by omega) ct)]; rfl
        · rcases List.mem_cons.mp hg with hg | hg
          · exact ⟨m, by omega, ct, hg.symm⟩
          · obtain ⟨j, hj, hh⟩ := h3 g (sf_ro_mem _ hg)
            exact ⟨j, by omega, hh⟩
        · intro j hj
          rcases Nat.lt_or_ge j m with hl | hl
          · exact h4 j hl
          · have : j = m := by omega
            subst this
            rw [if_neg hod]; exact ct
      · exact absurd c.2.1 hm.2
end
section
/-! one rewriting step keeps the value: the tokens T 0 .. T (n - 1), the first an opening parenthesis -/
def sf_GD (f : sf_F) (T : Nat → Int32 × Int32) (n : Nat) (v : Int32) : Prop :=
  (∀ j, j < n → (T j).1 = 3 → 1 ≤ sf_pc (T j).2) ∧
  ((n = 1 ∧ (T 0).2 = v) ∨ (2 ≤ n ∧ (T 0).1 = 4 ∧ sf_rn f T 1 (n - 1) (true, [], [-1]) = some (false, [v], [])))
/-- state before the group that begins behind l -/
theorem sf_gr0 {f : sf_F} {T : Nat → Int32 × Int32} {n l : Nat} {v : Int32} (hl : l + 1 < n) (h4 : (T l).1 = 4) (h : sf_rn f T 1 (n - 1) (true, [], [-1]) = some (false, [v], [])) :
    ∃ vs os, sf_rn f T 1 l (true, [], [-1]) = some (true, vs, (-1) :: os) ∧ sf_rn f T (l + 1) (n - 1 - l) (true, vs, (-1) :: os) = some (false, [v], []) ∧
      (l = 0 → os = []) ∧ (0 < l → os ≠ [] ∧ sf_rn f T 1 (l - 1) (true, [], [-1]) = some (true, vs, os)) := by
  rcases Nat.eq_zero_or_pos l with h0 | h0
  · subst h0
    exact ⟨[], [], rfl, h, fun _ => rfl, fun z => absurd z (by omega)⟩
  · rw [show n - 1 = l + (n - 1 - l) from by omega] at h
    obtain ⟨s1, e1, e2⟩ := sf_rn_pre h
    rw [show l = (l - 1) + 1 from by omega, sf_rn_snoc, show 1 + (l - 1) = l from by omega] at e1
    cases e : sf_rn f T 1 (l - 1) (true, [], [-1]) with
    | none => rw [e] at e1; exact nomatch e1
    | some s0 =>
      obtain ⟨w, vs, os⟩ := s0
      rw [e] at e1
      obtain ⟨hne, c | c | c | c⟩ := sf_st_inv (show sf_st f (T l) (w, vs, os) = some s1 from e1)
      · obtain ⟨cw, ct, cs⟩ := c
        subst cs cw
        refine ⟨vs, os, ?_, ?_, fun z => absurd z (by omega), fun _ => ⟨hne, rfl⟩⟩
        · rw [show l = (l - 1) + 1 from by omega, sf_rn_snoc, e, show 1 + (l - 1) = l from by omega]; exact e1
        · rw [Nat.add_comm l 1]; exact e2
      · exact absurd (c.2.1.symm.trans h4) (by decide)
      · exact absurd (c.2.1.symm.trans h4) (by decide)
      · exact absurd (c.2.1.symm.trans h4) (by decide)
/-- the group l .. r: its length is odd, its tokens by turns operands and operators -/
theorem sf_gr1 {f : sf_F} {T : Nat → Int32 × Int32} {l r : Nat} {vs os : List Int32} {b : Nat} {s' : sf_S} (hlr : l < r) (h5 : (T r).1 = 5) (hin : ∀ j, l < j → j < r → (T j).1 ≠ 4 ∧ (T j).1 ≠ 5)
    (hop : ∀ j, l < j → j < r → (T j).1 = 3 → 1 ≤ sf_pc (T j).2) (h : sf_rn f T (l + 1) ((r - l - 1) + (b + 1)) (true, vs, (-1) :: os) = some s') :
    (r - l - 1) % 2 = 1 ∧ (∀ j, l < j → j < r → (T j).1 = if (j - l - 1) % 2 = 0 then 1 else 3) := by
  obtain ⟨s1, e1, e2⟩ := sf_rn_pre h
  have G := sf_grp (r - l - 1) (fun j hj => hin (l + 1 + j) (by omega) (by omega)) (fun j hj => hop (l + 1 + j) (by omega) (by omega)) s1 e1
  obtain ⟨g1, _, g3⟩ := G
  obtain ⟨w1, vs1, os1⟩ := s1
  rw [show l + 1 + (r - l - 1) = r from by omega, sf_rn_s] at e2
  cases e : sf_st f (T r) (w1, vs1, os1) with
  | none => rw [e] at e2; exact nomatch e2
  | some s2 =>
    refine ⟨?_, fun j h1 h2 => ?_⟩
    · obtain ⟨_, c | c | c | c⟩ := sf_st_inv e
      · exact absurd (c.2.1.symm.trans h5) (by decide)
      · exact absurd (c.2.1.symm.trans h5) (by decide)
      · exact absurd (c.2.1.symm.trans h5) (by decide)
      · have : ¬ (r - l - 1) % 2 = 0 := by
          have := c.1
          dsimp only at g1
          rw [this] at g1
          exact of_decide_eq_false g1.symm
        omega
    · have := g3 (j - l - 1) (by omega)
      rw [show l + 1 + (j - l - 1) = j from by omega] at this
      exact this
theorem sf_ev0 {f : sf_F} {T T' : Nat → Int32 × Int32} {n l r : Nat} {v : Int32} (G : sf_GD f T n v) (hn : 1 < n) (hlr : l < r) (hrn : r < n) (h4 : (T l).1 = 4) (h5 : (T r).1 = 5)
    (hin : ∀ j, l < j → j < r → (T j).1 ≠ 4 ∧ (T j).1 ≠ 5) (hno : ∀ j, l < j → j < r → (T j).1 ≠ 3)
    (hlo : ∀ j, j < l → T' j = T j) (hk : T' l = (1, (T (l + 1)).2)) (hhi : ∀ j, l < j → j + 2 < n → T' j = T (j + 2)) :
    r = l + 2 ∧ sf_GD f T' (n - 2) v := by
  obtain ⟨Go, ⟨z, _⟩ | ⟨G2, G3, G4⟩⟩ := G
  · exact absurd z (by omega)
  obtain ⟨vs, os, a1, a2, a3, a4⟩ := sf_gr0 (l := l) (by omega) h4 G4
  rw [show n - 1 - l = (r - l - 1) + ((n - 1 - r) + 1) from by omega] at a2
  obtain ⟨g1, g2⟩ := sf_gr1 hlr h5 hin (fun j x y => Go j (by omega)) a2
  have hr : r = l + 2 := by
    rcases Nat.lt_or_ge (l + 2) r with z | z
    · have := g2 (l + 2) (by omega) z
      rw [if_neg (by omega)] at this
      exact absurd this (hno (l + 2) (by omega) z)
    · omega
  subst hr
  refine ⟨rfl, ?_⟩
  have t1 : (T (l + 1)).1 = 1 := by
    have := g2 (l + 1) (by omega) (by omega)
    rw [if_pos (by omega)] at this; exact this
  rw [show (l + 2 - l - 1) + ((n - 1 - (l + 2)) + 1) = 2 + (n - 3 - l) from by omega] at a2
  have e2 : sf_rn f T (l + 1) 2 (true, vs, (-1) :: os) = some (false, (T (l + 1)).2 :: vs, os) := by
    rw [sf_rn_s, show T (l + 1) = (1, (T (l + 1)).2) from by rw [← t1], sf_st_num (by simp)]
    show sf_rn f T (l + 1 + 1) 1 _ = _
    rw [sf_rn_s, show T (l + 1 + 1) = (5, (T (l + 2)).2) from by rw [← h5], sf_st_rp (by simp)]
    show some _ = _
    have q1 : sf_rv f 1 ((-1) :: os) ((T (l + 1)).2 :: vs) = (T (l + 1)).2 :: vs := sf_rv_app (f := f) (lev := 1) (by omega) [] os _
    have q2 : sf_ro 1 ((-1) :: os) = (-1) :: os := sf_ro_app (lev := 1) (by omega) [] os
    rw [q1, q2]; rfl
  rw [sf_rn_join e2] at a2
  refine ⟨fun j hj hh => ?_, ?_⟩
  · rcases Nat.lt_trichotomy j l with z | z | z
    · rw [hlo j z] at hh ⊢; exact Go j (by omega) hh
    · subst z; rw [hk] at hh; exact absurd (show (1 : Int32) = 3 from hh) (by decide)
    · rw [hhi j z (by omega)] at hh ⊢; exact Go (j + 2) (by omega) hh
  rcases Nat.eq_zero_or_pos l with h0 | h0
  · subst h0
    have z := a3 rfl
    subst z
    have hn3 : n = 3 := by
      rcases Nat.lt_or_ge 3 n with q | q
      · rw [show n - 3 - 0 = (n - 4) + 1 from by omega] at a2
        exact absurd rfl (sf_rn_ne a2)
      · omega
    subst hn3
    refine Or.inl ⟨rfl, ?_⟩
    rw [hk]
    have : vs = [] := by
      have := a1.symm.trans (rfl : sf_rn f T 1 0 (true, [], [-1]) = some (true, [], [-1]))
      exact (congrArg (fun z : Option sf_S => (z.getD (true, [], [])).2.1) this)
    subst this
    have a2' : some ((false, [(T 1).2], []) : sf_S) = some (false, [v], []) := a2
    exact (List.cons.inj (congrArg (fun z : sf_S => z.2.1) (Option.some.inj a2'))).1
  · obtain ⟨b1, b2⟩ := a4 h0
    refine Or.inr ⟨by omega, by rw [hlo 0 h0]; exact G3, ?_⟩
    rw [show n - 2 - 1 = (l - 1) + (1 + (n - 3 - l)) from by omega]
    have e1 : sf_rn f T' 1 (l - 1) (true, [], [-1]) = some (true, vs, os) := by
      rw [← b2]; exact sf_rn_congr _ _ _ _ (fun j hj => hlo _ (by omega))
    rw [sf_rn_join e1, show 1 + (l - 1) = l from by omega]
    have e3 : sf_rn f T' l 1 (true, vs, os) = some (false, (T (l + 1)).2 :: vs, os) := by
      rw [sf_rn_s, hk, sf_st_num b1]; rfl
    rw [sf_rn_join e3, ← a2]
    exact sf_rn_congr _ _ _ _ (fun j hj => by rw [hhi (l + 1 + j) (by omega) (by omega)]; exact congrArg T (by omega))
/-- an operator whose neighbours wait for nothing tighter is applied at once -/
theorem sf_st_ap {f : sf_F} {t : Int32 × Int32} {o a b : Int32} {vs os : List Int32} (hos : os ≠ []) (ho : 1 ≤ sf_pc o) (ht : t.1 = 5 ∨ (t.1 = 3 ∧ sf_pc t.2 ≤ sf_pc o)) :
    sf_st f t (false, b :: a :: vs, o :: os) = sf_st f t (false, f o a b :: vs, os) := by
  obtain ⟨k, x⟩ := t
  rcases ht with h | ⟨h, hp⟩
  · dsimp only at h
    subst h
    rw [sf_st_rp (by simp), sf_st_rp hos, sf_rv_c2 ho, sf_ro_c2 ho]; rfl
  · dsimp only at h hp
    subst h
    rw [sf_st_op (by simp), sf_st_op hos, sf_rv_c2 hp, sf_ro_c2 hp]; rfl
theorem sf_ro_all {lev : Nat} {os : List Int32} : ∀ (gs : List Int32), (∀ g, g ∈ gs → sf_pc g < lev) → 1 ≤ lev → sf_ro lev (gs ++ (-1) :: os) = gs ++ (-1) :: os := by
  intro gs h hl
  cases gs with
  | nil => rw [sf_ro_app hl]; rfl
  | cons g gs => exact sf_ro_c1 (h g (by simp))
theorem sf_rv_all {f : sf_F} {lev : Nat} {os vs : List Int32} : ∀ (gs : List Int32), (∀ g, g ∈ gs → sf_pc g < lev) → 1 ≤ lev → sf_rv f lev (gs ++ (-1) :: os) vs = vs := by
  intro gs h hl
  cases gs with
  | nil => rw [sf_rv_app hl]; rfl
  | cons g gs => exact sf_rv_c1 (h g (by simp))
theorem sf_ev1 {f : sf_F} {T T' : Nat → Int32 × Int32} {n l r at' : Nat} {v : Int32} (G : sf_GD f T n v) (hn : 1 < n) (hlr : l < r) (hrn : r < n) (h4 : (T l).1 = 4) (h5 : (T r).1 = 5)
    (hin : ∀ j, l < j → j < r → (T j).1 ≠ 4 ∧ (T j).1 ≠ 5) (ha1 : l < at') (ha2 : at' < r) (h3 : (T at').1 = 3)
    (hlt : ∀ j, l < j → j < at' → (T j).1 = 3 → sf_pc (T j).2 < sf_pc (T at').2) (hgt : ∀ j, at' < j → j < r → (T j).1 = 3 → sf_pc (T j).2 ≤ sf_pc (T at').2)
    (hlo : ∀ j, j < at' - 1 → T' j = T j) (hk : T' (at' - 1) = (1, f (T at').2 (T (at' - 1)).2 (T (at' + 1)).2)) (hhi : ∀ j, at' - 1 < j → j + 2 < n → T' j = T (j + 2)) :
    l + 1 < at' ∧ at' + 1 < r ∧ sf_GD f T' (n - 2) v := by
  obtain ⟨Go, ⟨z, _⟩ | ⟨G2, G3, G4⟩⟩ := G
  · exact absurd z (by omega)
  obtain ⟨vs, os, a1, a2, a3, a4⟩ := sf_gr0 (l := l) (by omega) h4 G4
  have a2' := a2
  rw [show n - 1 - l = (r - l - 1) + ((n - 1 - r) + 1) from by omega] at a2
  obtain ⟨g1, g2⟩ := sf_gr1 hlr h5 hin (fun j x y => Go j (by omega)) a2
  have hat : (at' - l - 1) % 2 = 1 := by
    have := g2 at' ha1 ha2
    rcases Nat.mod_two_eq_zero_or_one (at' - l - 1) with q | q
    · rw [if_pos q] at this; exact absurd (this.symm.trans h3) (by decide)
    · exact q
  have p1 : l + 1 < at' := by omega
  have p2 : at' + 1 < r := by omega
  have tm : (T (at' - 1)).1 = 1 := by
    have := g2 (at' - 1) (by omega) (by omega)
    rw [if_pos (by omega)] at this; exact this
  have tp : (T (at' + 1)).1 = 1 := by
    have := g2 (at' + 1) (by omega) (by omega)
    rw [if_pos (by omega)] at this; exact this
  refine ⟨p1, p2, fun j hj hh => ?_, Or.inr ⟨by omega, by rw [hlo 0 (by omega)]; exact G3, ?_⟩⟩
  · rcases Nat.lt_trichotomy j (at' - 1) with z | z | z
    · rw [hlo j z] at hh ⊢; exact Go j (by omega) hh
    · subst z; rw [hk] at hh; exact absurd (show (1 : Int32) = 3 from hh) (by decide)
    · rw [hhi j z (by omega)] at hh ⊢; exact Go (j + 2) (by omega) hh
  -- state before at' - 1
  rw [show n - 1 - l = (at' - l - 2) + (n + 1 - at') from by omega] at a2'
  obtain ⟨s1, e1, e2⟩ := sf_rn_pre a2'
  obtain ⟨w1, ⟨gs, w2, w3⟩, _⟩ := sf_grp (at' - l - 2) (fun j hj => hin (l + 1 + j) (by omega) (by omega)) (fun j hj => Go (l + 1 + j) (by omega)) s1 e1
  obtain ⟨b1, vs1, os1⟩ := s1
  dsimp only at w1 w2
  rw [decide_eq_true (by omega)] at w1
  subst w1 w2
  have ho : 1 ≤ sf_pc (T at').2 := Go at' (by omega) h3
  have hgs : ∀ g, g ∈ gs → sf_pc g < sf_pc (T at').2 := by
    intro g hg
    obtain ⟨j, hj, q1, q2⟩ := w3 g hg
    rw [← q2]; exact hlt (l + 1 + j) (by omega) (by omega) q1
  have hne : gs ++ (-1) :: os ≠ [] := by simp
  rw [show l + 1 + (at' - l - 2) = at' - 1 from by omega, show n + 1 - at' = 3 + ((n - 3 - at') + 1) from by omega] at e2
  have e3 : sf_rn f T (at' - 1) 3 (true, vs1, gs ++ (-1) :: os) = some (false, (T (at' + 1)).2 :: (T (at' - 1)).2 :: vs1, (T at').2 :: (gs ++ (-1) :: os)) := by
    rw [sf_rn_s, show T (at' - 1) = (1, (T (at' - 1)).2) from by rw [← tm], sf_st_num hne]
    show sf_rn f T (at' - 1 + 1) 2 _ = _
    rw [show at' - 1 + 1 = at' from by omega, sf_rn_s, show T at' = (3, (T at').2) from by rw [← h3], sf_st_op hne]
    show sf_rn f T (at' + 1) 1 _ = _
    rw [sf_ro_all gs hgs ho, sf_rv_all gs hgs ho, sf_rn_s, show T (at' + 1) = (1, (T (at' + 1)).2) from by rw [← tp], sf_st_num (by simp)]
    rfl
  rw [sf_rn_join e3, show at' - 1 + 3 = at' + 2 from by omega, sf_rn_s] at e2
  have ht : (T (at' + 2)).1 = 5 ∨ ((T (at' + 2)).1 = 3 ∧ sf_pc (T (at' + 2)).2 ≤ sf_pc (T at').2) := by
    rcases Nat.lt_or_ge (at' + 2) r with q | q
    · have := g2 (at' + 2) (by omega) q
      rw [if_neg (by omega)] at this
      exact Or.inr ⟨this, hgt _ (by omega) q this⟩
    · have : at' + 2 = r := by omega
      rw [this]; exact Or.inl h5
  rw [sf_st_ap hne ho ht] at e2
  -- the new list
  rw [show n - 2 - 1 = (at' - 2) + (1 + ((n - 3 - at') + 1)) from by omega]
  have f1 : sf_rn f T' 1 (at' - 2) (true, [], [-1]) = some (true, vs1, gs ++ (-1) :: os) := by
    rw [sf_rn_congr (T' := T) (at' - 2) 1 1 _ (fun j hj => hlo _ (by omega)), show at' - 2 = l + (at' - l - 2) from by omega, sf_rn_join a1, Nat.add_comm 1 l]
    exact e1
  rw [sf_rn_join f1, show 1 + (at' - 2) = at' - 1 from by omega]
  have f2 : sf_rn f T' (at' - 1) 1 (true, vs1, gs ++ (-1) :: os) = some (false, f (T at').2 (T (at' - 1)).2 (T (at' + 1)).2 :: vs1, gs ++ (-1) :: os) := by
    rw [sf_rn_s, hk, sf_st_num hne]; rfl
  rw [sf_rn_join f2, show at' - 1 + 1 = at' from by omega, sf_rn_s, hhi at' (by omega) (by omega)]
  rw [← e2]
  congr 1
  funext s9
  exact sf_rn_congr _ _ _ _ (fun j hj => by rw [hhi (at' + 1 + j) (by omega) (by omega)]; exact congrArg T (by omega))
end
section
/-! stacks in arrays -/
def sf_SK (a : Nat → Int32) : List Int32 → Prop
  | [] => True
  | x :: l => a l.length = x ∧ sf_SK a l
theorem sf_SK_up {a : Nat → Int32} {k : Nat} {v : Int32} : ∀ (l : List Int32), l.length ≤ k → sf_SK a l → sf_SK (upd a k v) l := by
  intro l
  induction l with
  | nil => intro _ _; trivial
  | cons x l ih =>
    intro hk h
    have hk' : l.length + 1 ≤ k := hk
    exact ⟨by rw [pk_un (by omega)]; exact h.1, ih (by omega) h.2⟩
theorem sf_SK_push {a : Nat → Int32} {v : Int32} {l : List Int32} (h : sf_SK a l) : sf_SK (upd a l.length v) (v :: l) := ⟨pk_us, sf_SK_up l (Nat.le_refl _) h⟩
/-! the code as a run over operands -/
def sf_ci (f : sf_F) (nm vr : Int32 → Int32) (op ar : Int32) (st : List Int32) : List Int32 :=
  if op = 1 then nm ar :: st else if op = 2 then vr ar :: st else if op = 3 then sf_po f ar st else st
def sf_cr (f : sf_F) (nm vr : Int32 → Int32) (cO cA : Nat → Int32) : Nat → Nat → List Int32 → List Int32
  | _, 0, st => st
  | a, m + 1, st => sf_cr f nm vr cO cA (a + 1) m (sf_ci f nm vr (cO a) (cA a) st)
theorem sf_cr_add {f : sf_F} {nm vr : Int32 → Int32} {cO cA : Nat → Int32} : ∀ (x y a : Nat) (st : List Int32), sf_cr f nm vr cO cA a (x + y) st = sf_cr f nm vr cO cA (a + x) y (sf_cr f nm vr cO cA a x st) := by
  intro x
  induction x with
  | zero => intro y a st; rw [Nat.zero_add]; rfl
  | succ x ih =>
    intro y a st
    rw [show x + 1 + y = (x + y) + 1 from by omega]
    show sf_cr f nm vr cO cA (a + 1) (x + y) _ = _
    rw [ih, show a + 1 + x = a + (x + 1) from by omega]; rfl
theorem sf_cr_snoc {f : sf_F} {nm vr : Int32 → Int32} {cO cA : Nat → Int32} (x a : Nat) (st : List Int32) : sf_cr f nm vr cO cA a (x + 1) st = sf_ci f nm vr (cO (a + x)) (cA (a + x)) (sf_cr f nm vr cO cA a x st) := by
  rw [sf_cr_add]; rfl
theorem sf_cr_congr {f : sf_F} {nm vr : Int32 → Int32} {cO cA cO' cA' : Nat → Int32} : ∀ (m a : Nat) (st : List Int32), (∀ j, a ≤ j → j < a + m → cO' j = cO j ∧ cA' j = cA j) → sf_cr f nm vr cO' cA' a m st = sf_cr f nm vr cO cA a m st := by
  intro m
  induction m with
  | zero => intro a st _; rfl
  | succ m ih =>
    intro a st h
    show sf_cr f nm vr cO' cA' (a + 1) m (sf_ci f nm vr (cO' a) (cA' a) st) = sf_cr f nm vr cO cA (a + 1) m (sf_ci f nm vr (cO a) (cA a) st)
    rw [(h a (by omega) (by omega)).1, (h a (by omega) (by omega)).2]
    exact ih _ _ (fun j h1 h2 => h j (by omega) (by omega))
/-! tokens -/
def sf_TV (nv : Nat) (k a : Int32) : Prop := (k = 1 ∨ k = 2 ∨ k = 3 ∨ k = 4 ∨ k = 5 ∨ k = 6 ∨ k = 7 ∨ k = 8 ∨ k = 9 ∨ k = 10 ∨ k = 11 ∨ k = 12) ∧ (k = 2 → vp_in a nv) ∧ (k = 3 → vp_in a 7) ∧ (k = 6 → vp_in a nv) ∧ (k = 7 → vp_in a 4)
abbrev sf_e (k : Int32) : Prop := k = 1 ∨ k = 2 ∨ k = 3 ∨ k = 4 ∨ k = 5
abbrev sf_b (k : Int32) : Prop := k = 6 ∨ k = 7 ∨ k = 8 ∨ k = 12
abbrev sf_g (k : Int32) : Prop := k = 8 ∨ k = 12
abbrev sf_six (k : Int32) : Prop := k = 6 ∨ k = 7 ∨ k = 8 ∨ k = 10 ∨ k = 11 ∨ k = 12
theorem sf_pcop {a : Int32} (h : vp_in a 7) : 1 ≤ sf_pc a := by
  obtain ⟨j, hj, rfl⟩ := vp_in_of h (by omega)
  exact (by decide : ∀ j, j < 7 → 1 ≤ sf_pc (nI j)) j hj
def sf_tk (nm vr : Int32 → Int32) (K A : Nat → Int32) (i : Nat) : Int32 × Int32 :=
  (if K i = 2 then 1 else K i, if K i = 1 then nm (A i) else if K i = 2 then vr (A i) else A i)
/-- open statements before p, innermost first: the opener, and the last place of a part's beginning (opener or ELSE) -/
def sf_BK (K : Nat → Int32) : Nat → List (Nat × Nat)
  | 0 => []
  | p + 1 => if K p = 8 ∨ K p = 12 then (p, p) :: sf_BK K p else if K p = 11 then (sf_BK K p).tail
      else if K p = 10 then (match sf_BK K p with | [] => [] | x :: B => (x.1, p) :: B) else sf_BK K p
theorem sf_BK_g {K : Nat → Int32} {p : Nat} (h : sf_g (K p)) : sf_BK K (p + 1) = (p, p) :: sf_BK K p := if_pos h
theorem sf_BK_11 {K : Nat → Int32} {p : Nat} (h : K p = 11) : sf_BK K (p + 1) = (sf_BK K p).tail := by
  show (if K p = 8 ∨ K p = 12 then _ else _) = _
  rw [if_neg (by rw [h]; decide), if_pos h]
theorem sf_BK_10 {K : Nat → Int32} {p : Nat} {o s : Nat} {B : List (Nat × Nat)} (h : K p = 10) (hb : sf_BK K p = (o, s) :: B) : sf_BK K (p + 1) = (o, p) :: B := by
  show (if K p = 8 ∨ K p = 12 then _ else _) = _
  rw [if_neg (by rw [h]; decide), if_neg (by rw [h]; decide), if_pos h, hb]
theorem sf_BK_10' {K : Nat → Int32} {p : Nat} (h : K p = 10) (hb : sf_BK K p = []) : sf_BK K (p + 1) = [] := by
  show (if K p = 8 ∨ K p = 12 then _ else _) = _
  rw [if_neg (by rw [h]; decide), if_neg (by rw [h]; decide), if_pos h, hb]
theorem sf_BK_n {K : Nat → Int32} {p : Nat} (h1 : ¬ sf_g (K p)) (h2 : K p ≠ 11) (h3 : K p ≠ 10) : sf_BK K (p + 1) = sf_BK K p := by
  show (if K p = 8 ∨ K p = 12 then _ else _) = _
  rw [if_neg h1, if_neg h2, if_neg h3]
theorem sf_ge {k : Int32} (h : sf_e k) : ¬ sf_g k ∧ k ≠ 11 ∧ k ≠ 10 ∧ ¬ sf_b k ∧ ¬ sf_six k ∧ k ≠ 9 := by
  rcases h with h | h | h | h | h <;> subst h <;> (unfold sf_g sf_b sf_six; decide)
theorem sf_BK_e {K : Nat → Int32} {p : Nat} (h : sf_e (K p)) : sf_BK K (p + 1) = sf_BK K p := sf_BK_n (sf_ge h).1 (sf_ge h).2.1 (sf_ge h).2.2.1
theorem sf_BK_es {K : Nat → Int32} {p : Nat} : ∀ (m : Nat), (∀ j, p ≤ j → j < p + m → sf_e (K j)) → sf_BK K (p + m) = sf_BK K p := by
  intro m
  induction m with
  | zero => intro _; rfl
  | succ m ih =>
    intro h
    rw [← Nat.add_assoc, sf_BK_e (h (p + m) (by omega) (by omega))]
    exact ih (fun j h1 h2 => h j h1 (by omega))
/-- lengths: at most p -/
theorem sf_BK_len (K : Nat → Int32) : ∀ p, (sf_BK K p).length ≤ p := by
  intro p
  induction p with
  | zero => exact Nat.le_refl 0
  | succ p ih =>
    by_cases g : sf_g (K p)
    · rw [sf_BK_g g]; simp only [List.length_cons]; omega
    · by_cases e : K p = 11
      · rw [sf_BK_11 e, List.length_tail]; omega
      · by_cases t : K p = 10
        · cases hb : sf_BK K p with
          | nil => rw [sf_BK_10' t hb]; exact Nat.zero_le _
          | cons x B =>
            obtain ⟨o, s⟩ := x
            rw [sf_BK_10 t hb]; rw [hb] at ih; simp only [List.length_cons] at ih ⊢; omega
        · rw [sf_BK_n g e t]; omega
/-- what each entry is -/
def sf_EN (K : Nat → Int32) (p : Nat) : List (Nat × Nat) → Prop
  | [] => True
  | x :: B => x.1 ≤ x.2 ∧ x.2 < p ∧ sf_g (K x.1) ∧ (x.1 = x.2 ∨ K x.2 = 10) ∧ (sf_BK K (x.2 + 1)).length = B.length + 1 ∧ sf_BK K x.1 = B ∧
      (∀ i, x.2 < i → i < p → (K i = 10 ∨ K i = 11) → B.length + 1 < (sf_BK K i).length) ∧ (∀ i, x.1 < i → i ≤ p → B.length + 1 ≤ (sf_BK K i).length) ∧ sf_EN K p B
theorem sf_EN_up {K : Nat → Int32} {p : Nat} : ∀ (B : List (Nat × Nat)), (sf_BK K p).length > B.length ∨ (K p ≠ 10 ∧ K p ≠ 11) → (sf_BK K (p + 1)).length ≥ B.length → sf_EN K p B → sf_EN K (p + 1) B := by
  intro B
  induction B with
  | nil => intro _ _ _; trivial
  | cons x B ih =>
    intro h1 h2 h
    obtain ⟨a1, a2, a3, a4, a5, a6, a7, a8, a9⟩ := h
    simp only [List.length_cons] at h1 h2
    refine ⟨a1, by omega, a3, a4, a5, a6, ?_, ?_, ih (h1.imp (fun z => by omega) id) (by omega) a9⟩
    · intro i q1 q2 q3
      rcases Nat.lt_or_ge i p with z | z
      · exact a7 i q1 z q3
      · have : i = p := by omega
        subst this
        rcases h1 with h1 | h1
        · omega
        · rcases q3 with q3 | q3
          · exact absurd q3 h1.1
          · exact absurd q3 h1.2
    · intro i q1 q2
      rcases Nat.lt_or_ge i (p + 1) with z | z
      · exact a8 i q1 (by omega)
      · have : i = p + 1 := by omega
        subst this; omega
theorem sf_EN_BK (K : Nat → Int32) : ∀ p, sf_EN K p (sf_BK K p) := by
  intro p
  induction p with
  | zero => trivial
  | succ p ih =>
    by_cases g : sf_g (K p)
    · have hn : K p ≠ 10 ∧ K p ≠ 11 := by rcases g with g | g <;> rw [g] <;> decide
      have e : sf_BK K (p + 1) = (p, p) :: sf_BK K p := sf_BK_g g
      rw [e]
      refine ⟨Nat.le_refl _, by show p < p + 1; omega, g, Or.inl rfl, ?_, rfl, fun i q1 q2 => ?_, fun i q1 q2 => ?_, ?_⟩
      · rw [show ((p, p) : Nat × Nat).2 = p from rfl, e]; rfl
      · dsimp only at q1; exact absurd q1 (by omega)
      · dsimp only at q1
        have : i = p + 1 := by omega
        subst this; rw [e]; exact Nat.le_refl _
      · exact sf_EN_up _ (Or.inr hn) (by rw [e]; simp) ih
    · by_cases e11 : K p = 11
      · have e := sf_BK_11 e11
        rw [e]
        cases hb : sf_BK K p with
        | nil => trivial
        | cons x B =>
          rw [hb] at ih
          refine sf_EN_up _ (Or.inl ?_) ?_ ih.2.2.2.2.2.2.2.2
          · rw [hb]; simp
          · rw [e, hb]; exact Nat.le_refl _
      · by_cases e10 : K p = 10
        · cases hb : sf_BK K p with
          | nil => rw [sf_BK_10' e10 hb]; trivial
          | cons x B =>
            obtain ⟨o, s⟩ := x
            have e := sf_BK_10 e10 hb
            rw [e]
            rw [hb] at ih
            obtain ⟨a1, a2, a3, a4, a5, a6, a7, a8, a9⟩ := ih
            dsimp only at a1 a2 a3 a4 a5 a6 a7 a8
            refine ⟨by dsimp only; omega, by dsimp only; omega, a3, Or.inr e10, ?_, a6, fun i q1 q2 => ?_, fun i q1 q2 => ?_, ?_⟩
            · dsimp only; rw [e]; rfl
            · dsimp only at q1; exact absurd q1 (by omega)
            · dsimp only at q1
              rcases Nat.lt_or_ge i (p + 1) with z | z
              · exact a8 i q1 (by omega)
              · have : i = p + 1 := by omega
                subst this; rw [e]; exact Nat.le_refl _
            · refine sf_EN_up _ (Or.inl ?_) ?_ a9
              · rw [hb]; simp
              · rw [e]; simp
        · have e := sf_BK_n g e11 e10
          rw [e]
          exact sf_EN_up _ (Or.inr ⟨e10, e11⟩) (by rw [e]; exact Nat.le_refl _) ih
end
section
/-- a part that begins at s is open, or has been ended by the ELSE or END at q -/
theorem sf_SEG {K : Nat → Int32} {s : Nat} (hs : sf_g (K s) ∨ (K s = 10 ∧ sf_BK K s ≠ [])) : ∀ (m : Nat), (∃ x, x ∈ sf_BK K (s + 1 + m) ∧ x.2 = s) ∨ (∃ q, s < q ∧ q < s + 1 + m ∧ (K q = 10 ∨ K q = 11) ∧ ∃ o B, sf_BK K q = (o, s) :: B) := by
  intro m
  induction m with
  | zero =>
    refine Or.inl ?_
    rcases hs with h | ⟨h, hb⟩
    · exact ⟨(s, s), by rw [Nat.add_zero, sf_BK_g h]; simp, rfl⟩
    · cases e : sf_BK K s with
      | nil => exact absurd e hb
      | cons x B =>
        obtain ⟨o, s0⟩ := x
        exact ⟨(o, s), by rw [Nat.add_zero, sf_BK_10 h e]; simp, rfl⟩
  | succ m ih =>
    rcases ih with ⟨x, hx, hxs⟩ | ⟨q, q1, q2, q3⟩
    · rw [← Nat.add_assoc]
      by_cases g : sf_g (K (s + 1 + m))
      · exact Or.inl ⟨x, by rw [sf_BK_g g]; exact List.mem_cons_of_mem _ hx, hxs⟩
      · by_cases e11 : K (s + 1 + m) = 11
        · cases e : sf_BK K (s + 1 + m) with
          | nil => rw [e] at hx; exact nomatch hx
          | cons y B =>
            rw [e] at hx
            rcases List.mem_cons.mp hx with z | z
            · subst z
              refine Or.inr ⟨s + 1 + m, by omega, by omega, Or.inr e11, x.1, B, ?_⟩
              rw [e, ← hxs]
            · exact Or.inl ⟨x, by rw [sf_BK_11 e11, e]; exact z, hxs⟩
        · by_cases e10 : K (s + 1 + m) = 10
          · cases e : sf_BK K (s + 1 + m) with
            | nil => rw [e] at hx; exact nomatch hx
            | cons y B =>
              rw [e] at hx
              rcases List.mem_cons.mp hx with z | z
              · subst z
                refine Or.inr ⟨s + 1 + m, by omega, by omega, Or.inl e10, x.1, B, ?_⟩
                rw [e, ← hxs]
              · exact Or.inl ⟨x, by rw [sf_BK_10 (o := y.1) (s := y.2) e10 e]; exact List.mem_cons_of_mem _ z, hxs⟩
          · exact Or.inl ⟨x, by rw [sf_BK_n g e11 e10]; exact hx, hxs⟩
    · exact Or.inr ⟨q, q1, by omega, q3⟩
/-- the place q ends the part that begins at s -/
def sf_PE (K : Nat → Int32) (s q : Nat) : Prop := s < q ∧ (K q = 10 ∨ K q = 11) ∧ (sf_BK K q).length = (sf_BK K (s + 1)).length ∧ ∀ i, s < i → i < q → (sf_BK K (s + 1)).length ≤ (sf_BK K i).length ∧ ((K i = 10 ∨ K i = 11) → (sf_BK K (s + 1)).length < (sf_BK K i).length)
theorem sf_PE_of {K : Nat → Int32} {q o s : Nat} {B : List (Nat × Nat)} (hk : K q = 10 ∨ K q = 11) (hb : sf_BK K q = (o, s) :: B) : sf_PE K s q := by
  have E := sf_EN_BK K q
  rw [hb] at E
  obtain ⟨a1, a2, a3, a4, a5, a6, a7, a8, _⟩ := E
  dsimp only at a1 a2 a3 a4 a5 a6 a7 a8
  refine ⟨a2, hk, by rw [hb, a5]; rfl, fun i q1 q2 => ⟨by rw [a5]; exact a8 i (by omega) (by omega), fun q3 => by rw [a5]; exact a7 i q1 q2 q3⟩⟩
theorem sf_PE_uniq {K : Nat → Int32} {s q q' : Nat} (h : sf_PE K s q) (h' : sf_PE K s q') : q = q' := by
  rcases Nat.lt_trichotomy q q' with z | z | z
  · have := (h'.2.2.2 q h.1 z).2 h.2.1
    rw [h.2.2.1] at this; omega
  · exact z
  · have := (h.2.2.2 q' h'.1 z).2 h'.2.1
    rw [h'.2.2.1] at this; omega
/-- entries of a later stack were there before, or begin later -/
theorem sf_BK_old {K : Nat → Int32} {p : Nat} : ∀ (m : Nat) (x : Nat × Nat), x ∈ sf_BK K (p + m) → (∃ y, y ∈ sf_BK K p ∧ y.1 = x.1) ∨ p ≤ x.1 := by
  intro m
  induction m with
  | zero => intro x hx; exact Or.inl ⟨x, hx, rfl⟩
  | succ m ih =>
    intro x hx
    rw [← Nat.add_assoc] at hx
    by_cases g : sf_g (K (p + m))
    · rw [sf_BK_g g] at hx
      rcases List.mem_cons.mp hx with z | z
      · subst z; exact Or.inr (by dsimp only; omega)
      · exact ih x z
    · by_cases e11 : K (p + m) = 11
      · rw [sf_BK_11 e11] at hx
        exact ih x (List.mem_of_mem_tail hx)
      · by_cases e10 : K (p + m) = 10
        · cases e : sf_BK K (p + m) with
          | nil => rw [sf_BK_10' e10 e] at hx; exact nomatch hx
          | cons y B =>
            rw [sf_BK_10 (o := y.1) (s := y.2) e10 e] at hx
            rcases List.mem_cons.mp hx with z | z
            · have := ih y (by rw [e]; simp)
              subst z; exact this
            · exact ih x (by rw [e]; exact List.mem_cons_of_mem _ z)
        · rw [sf_BK_n g e11 e10] at hx
          exact ih x hx
theorem sf_EN_mem {K : Nat → Int32} {p : Nat} : ∀ (B : List (Nat × Nat)) (x : Nat × Nat), sf_EN K p B → x ∈ B → x.1 ≤ x.2 ∧ x.2 < p ∧ sf_g (K x.1) ∧ (sf_BK K x.1).length < B.length := by
  intro B
  induction B with
  | nil => intro x _ h; exact nomatch h
  | cons y B ih =>
    intro x h hx
    obtain ⟨a1, a2, a3, a4, a5, a6, a7, a8, a9⟩ := h
    rcases List.mem_cons.mp hx with z | z
    · subst z; exact ⟨a1, a2, a3, by rw [a6]; simp⟩
    · obtain ⟨b1, b2, b3, b4⟩ := ih x a9 z
      exact ⟨b1, b2, b3, by simp only [List.length_cons]; omega⟩
/-- an opener that was closed at q isn't open later -/
theorem sf_END_uniq {K : Nat → Int32} {q q' o s s' : Nat} {B B' : List (Nat × Nat)} (hq : q < q') (hk : K q = 11) (hb : sf_BK K q = (o, s) :: B) (hb' : sf_BK K q' = (o, s') :: B') : False := by
  have E := sf_EN_BK K q'
  rw [hb'] at E
  have a6 := E.2.2.2.2.2.1
  have a8 := E.2.2.2.2.2.2.2.1 (q + 1)
  have E0 := sf_EN_BK K q
  rw [hb] at E0
  have b6 := E0.2.2.2.2.2.1
  have b2 := E0.2.1
  have b1 := E0.1
  dsimp only at a6 a8 b6 b1 b2
  rw [sf_BK_11 hk, hb] at a8
  have := a8 (by omega) (by omega)
  rw [a6] at b6
  subst b6
  simp only [List.tail_cons] at this
  omega
/-! addresses -/
def sf_cw (K : Nat → Int32) (p : Nat) : Nat := if K p = 4 ∨ K p = 5 ∨ K p = 8 then 0 else if K p = 11 then (if K ((sf_BK K p).headD (0, 0)).1 = 12 then 1 else 0) else 1
def sf_ad (K : Nat → Int32) : Nat → Nat
  | 0 => 0
  | p + 1 => sf_ad K p + sf_cw K p
theorem sf_ad_s {K : Nat → Int32} {p : Nat} : sf_ad K (p + 1) = sf_ad K p + sf_cw K p := rfl
theorem sf_cw_le (K : Nat → Int32) (p : Nat) : sf_cw K p ≤ 1 := by
  unfold sf_cw
  split
  · omega
  · split
    · split <;> omega
    · omega
theorem sf_cw_1 {K : Nat → Int32} {p : Nat} (h : K p = 1 ∨ K p = 2 ∨ K p = 3 ∨ K p = 6 ∨ K p = 7 ∨ K p = 9 ∨ K p = 10 ∨ K p = 12) : sf_cw K p = 1 := by
  unfold sf_cw
  rcases h with h | h | h | h | h | h | h | h <;> rw [h] <;> (rw [if_neg (by decide), if_neg (by decide)])
theorem sf_cw_0 {K : Nat → Int32} {p : Nat} (h : K p = 4 ∨ K p = 5 ∨ K p = 8) : sf_cw K p = 0 := by
  unfold sf_cw
  rw [if_pos h]
theorem sf_cw_E {K : Nat → Int32} {p o s : Nat} {B : List (Nat × Nat)} (h : K p = 11) (hb : sf_BK K p = (o, s) :: B) : sf_cw K p = if K o = 12 then 1 else 0 := by
  unfold sf_cw
  rw [if_neg (by rw [h]; decide), if_pos h, hb]; rfl
theorem sf_ad_le {K : Nat → Int32} : ∀ (p : Nat), sf_ad K p ≤ p := by
  intro p
  induction p with
  | zero => exact Nat.le_refl _
  | succ p ih => rw [sf_ad_s]; have := sf_cw_le K p; omega
theorem sf_ad_mono {K : Nat → Int32} {p q : Nat} (h : p ≤ q) : sf_ad K p ≤ sf_ad K q := by
  obtain ⟨m, rfl⟩ : ∃ m, q = p + m := ⟨q - p, by omega⟩
  clear h
  induction m with
  | zero => exact Nat.le_refl _
  | succ m ih => rw [← Nat.add_assoc, sf_ad_s]; omega
theorem sf_ad_lt {K : Nat → Int32} {p q : Nat} (h : p < q) (h1 : sf_cw K p = 1) : sf_ad K p < sf_ad K q := by
  have := sf_ad_mono (K := K) (p := p + 1) (q := q) (by omega)
  rw [sf_ad_s] at this; omega
/-! expressions' ends -/
def sf_xn (K : Nat → Int32) : Nat → Nat → Nat
  | 0, j => j
  | n + 1, j => if sf_e (K j) then sf_xn K n (j + 1) else j
def sf_xe (K : Nat → Int32) (c i : Nat) : Nat := sf_xn K (c - (i + 1)) (i + 1)
theorem sf_xn_spec {K : Nat → Int32} : ∀ (n j : Nat), j ≤ sf_xn K n j ∧ sf_xn K n j ≤ j + n ∧ (∀ t, j ≤ t → t < sf_xn K n j → sf_e (K t)) ∧ (sf_xn K n j = j + n ∨ ¬ sf_e (K (sf_xn K n j))) := by
  intro n
  induction n with
  | zero => intro j; exact ⟨Nat.le_refl _, Nat.le_refl _, fun t h1 h2 => absurd h2 (by show ¬ t < j; omega), Or.inl rfl⟩
  | succ n ih =>
    intro j
    by_cases h : sf_e (K j)
    · have e : sf_xn K (n + 1) j = sf_xn K n (j + 1) := if_pos h
      rw [e]
      obtain ⟨a, b, c, d⟩ := ih (j + 1)
      refine ⟨by omega, by omega, fun t h1 h2 => ?_, d.imp (fun z => by omega) id⟩
      rcases Nat.lt_or_ge j t with z | z
      · exact c t z h2
      · have : t = j := by omega
        subst this; exact h
    · have e : sf_xn K (n + 1) j = j := if_neg h
      rw [e]
      exact ⟨Nat.le_refl _, by omega, fun t h1 h2 => absurd h2 (by omega), Or.inr h⟩
theorem sf_xe_spec {K : Nat → Int32} {c i : Nat} (h : i < c) : i < sf_xe K c i ∧ sf_xe K c i ≤ c ∧ (∀ t, i < t → t < sf_xe K c i → sf_e (K t)) ∧ (sf_xe K c i = c ∨ ¬ sf_e (K (sf_xe K c i))) := by
  obtain ⟨a, b, d, e⟩ := sf_xn_spec (K := K) (c - (i + 1)) (i + 1)
  unfold sf_xe
  refine ⟨by omega, by omega, fun t h1 h2 => d t (by omega) h2, ?_⟩
  rcases e with e | e
  · exact Or.inl (by omega)
  · exact Or.inr e
theorem sf_xe_eq {K : Nat → Int32} {c i e : Nat} (h1 : i < e) (h2 : e ≤ c) (h3 : ∀ t, i < t → t < e → sf_e (K t)) (h4 : e = c ∨ ¬ sf_e (K e)) : sf_xe K c i = e := by
  obtain ⟨a, b, d, f⟩ := sf_xe_spec (K := K) (c := c) (i := i) (by omega)
  rcases Nat.lt_trichotomy (sf_xe K c i) e with z | z | z
  · rcases f with f | f
    · omega
    · exact absurd (h3 _ a z) f
  · exact z
  · rcases h4 with h4 | h4
    · omega
    · exact absurd (d e h1 z) h4
/-! parentheses, owner, fit -/
def sf_pr (K : Nat → Int32) : Nat → Nat
  | 0 => 0
  | p + 1 => if K p = 4 then sf_pr K p + 1 else if K p = 5 then sf_pr K p - 1 else sf_pr K p
def sf_LS (K : Nat → Int32) : Nat → Int32
  | 0 => 6
  | p + 1 => if sf_b (K p) then K p else sf_LS K p
def sf_bf (K : Nat → Int32) (p : Nat) : Int32 := if p = 0 then 11 else K (p - 1)
def sf_FS (K : Nat → Int32) (p : Nat) : Prop := sf_b (K p) ∨ (K p = 11 ∧ sf_BK K p ≠ []) ∨ (K p = 10 ∧ ∃ o B, sf_BK K p = (o, o) :: B ∧ K o = 8)
def sf_FT (K : Nat → Int32) (p : Nat) : Prop :=
  if sf_b (sf_bf K p) ∨ sf_bf K p = 3 ∨ sf_bf K p = 4 then (K p = 1 ∨ K p = 2 ∨ K p = 4)
  else if sf_bf K p = 1 ∨ sf_bf K p = 2 ∨ sf_bf K p = 5 then (if K p = 3 then True else if 0 < sf_pr K p then K p = 5 else if sf_g (sf_LS K p) then K p = 9 else sf_FS K p)
  else sf_FS K p
theorem sf_pr_le {K : Nat → Int32} : ∀ (p : Nat), sf_pr K p ≤ p := by
  intro p
  induction p with
  | zero => exact Nat.le_refl _
  | succ p ih =>
    show (if K p = 4 then sf_pr K p + 1 else if K p = 5 then sf_pr K p - 1 else sf_pr K p) ≤ p + 1
    split
    · omega
    · split <;> omega
theorem sf_FT_5 {K : Nat → Int32} {p : Nat} (h : sf_FT K p) (h5 : K p = 5) : 0 < sf_pr K p := by
  unfold sf_FT sf_FS at h
  rw [h5] at h
  by_cases q1 : sf_b (sf_bf K p) ∨ sf_bf K p = 3 ∨ sf_bf K p = 4
  · rw [if_pos q1] at h; exact absurd h (by decide)
  · rw [if_neg q1] at h
    have hn : ¬ (sf_b 5 ∨ ((5 : Int32) = 11 ∧ sf_BK K p ≠ []) ∨ ((5 : Int32) = 10 ∧ ∃ o B, sf_BK K p = (o, o) :: B ∧ K o = 8)) := by
      rintro (z | ⟨z, _⟩ | ⟨z, _⟩)
      · revert z; decide
      · revert z; decide
      · revert z; decide
    by_cases q2 : sf_bf K p = 1 ∨ sf_bf K p = 2 ∨ sf_bf K p = 5
    · rw [if_pos q2, if_neg (by decide)] at h
      by_cases q3 : 0 < sf_pr K p
      · exact q3
      · rw [if_neg q3] at h
        by_cases q4 : sf_g (sf_LS K p)
        · rw [if_pos q4] at h; exact absurd h (by decide)
        · rw [if_neg q4] at h; exact absurd h hn
    · rw [if_neg q2] at h; exact absurd h hn
theorem sf_FT_s {K : Nat → Int32} {p : Nat} (h : sf_FT K p) (hs : K p = 10 ∨ K p = 11) : sf_FS K p := by
  unfold sf_FT at h
  by_cases q1 : sf_b (sf_bf K p) ∨ sf_bf K p = 3 ∨ sf_bf K p = 4
  · rw [if_pos q1] at h
    rcases hs with hs | hs <;> rw [hs] at h <;> exact absurd h (by decide)
  · rw [if_neg q1] at h
    by_cases q2 : sf_bf K p = 1 ∨ sf_bf K p = 2 ∨ sf_bf K p = 5
    · rw [if_pos q2, if_neg (by rcases hs with hs | hs <;> rw [hs] <;> decide)] at h
      by_cases q3 : 0 < sf_pr K p
      · rw [if_pos q3] at h
        rcases hs with hs | hs <;> rw [hs] at h <;> exact absurd h (by decide)
      · rw [if_neg q3] at h
        by_cases q4 : sf_g (sf_LS K p)
        · rw [if_pos q4] at h
          rcases hs with hs | hs <;> rw [hs] at h <;> exact absurd h (by decide)
        · rw [if_neg q4] at h; exact h
    · rw [if_neg q2] at h; exact h
theorem sf_FT_10 {K : Nat → Int32} {p : Nat} (h : sf_FT K p) (hs : K p = 10) : ∃ o B, sf_BK K p = (o, o) :: B ∧ K o = 8 := by
  rcases sf_FT_s h (Or.inl hs) with z | ⟨z, _⟩ | ⟨_, z⟩
  · rw [hs] at z; exact absurd z (by decide)
  · rw [hs] at z; exact absurd z (by decide)
  · exact z
theorem sf_FT_11 {K : Nat → Int32} {p : Nat} (h : sf_FT K p) (hs : K p = 11) : sf_BK K p ≠ [] := by
  rcases sf_FT_s h (Or.inr hs) with z | ⟨_, z⟩ | ⟨z, _⟩
  · rw [hs] at z; exact absurd z (by decide)
  · exact z
  · rw [hs] at z; exact absurd z (by decide)
end
section
/-! the reference's searches -/
theorem sf_e_iff {k : Int32} : sf_e k ↔ (¬ k < 1 ∧ k ≤ 5) := by
  constructor
  · rintro (h | h | h | h | h) <;> subst h <;> decide
  · rintro ⟨h1, h2⟩
    have h0 : ¬ k < 0 := fun z => h1 (Int32.lt_trans z (by decide))
    obtain ⟨j, hj, rfl⟩ := nI_of h0
    have a : j ≤ 5 := (nI_leI hj (by omega)).mp h2
    have b : ¬ j < 1 := fun z => h1 ((nI_ltI (b := 1) hj (by omega)).mpr z)
    exact (by decide : ∀ j, j ≤ 5 → ¬ j < 1 → sf_e (nI j)) j a b
def sf_OB (K : Nat → Int32) (p : Nat) : List Nat := (sf_BK K p).map Prod.fst
theorem sf_OB_g {K : Nat → Int32} {p : Nat} (h : sf_g (K p)) : sf_OB K (p + 1) = p :: sf_OB K p := by
  unfold sf_OB; rw [sf_BK_g h]; rfl
theorem sf_OB_11 {K : Nat → Int32} {p : Nat} (h : K p = 11) : sf_OB K (p + 1) = (sf_OB K p).tail := by
  unfold sf_OB; rw [sf_BK_11 h, List.map_tail]
theorem sf_OB_n {K : Nat → Int32} {p : Nat} (h1 : ¬ sf_g (K p)) (h2 : K p ≠ 11) : sf_OB K (p + 1) = sf_OB K p := by
  unfold sf_OB
  by_cases h3 : K p = 10
  · cases e : sf_BK K p with
    | nil => rw [sf_BK_10' h3 e]
    | cons x B => rw [sf_BK_10 (o := x.1) (s := x.2) h3 e]; rfl
  · rw [sf_BK_n h1 h2 h3]
theorem sf_g11 {k : Int32} (h : sf_g k) : ¬ k = 11 := by
  rcases h with h | h <;> rw [h] <;> decide
def sf_opR (o : Option Nat) : Int32 := match o with
  | some x => nI x
  | none => -1
section
variable {yv yt yo yc ys yf yp yr : Int32} {K A L aI aS M oC oV kS kM kC kV wK wV wS wL : Nat → Int32}
theorem sf_y_begins {post : Int32 → Prop} {k : Int32} (h1 : sf_b k → post 1) (h0 : ¬ sf_b k → post 0) : wpY_begins post (yv, yt, yo, yc, ys, yf, yp, yr, K, A, L, aI, aS, M, oC, oV, kS, kM, kC, kV, wK, wV, wS, wL) k :=
  br_c (fun h => h1 (Or.inl h)) fun n6 => br_c (fun h => h1 (Or.inr (Or.inl h))) fun n7 => br_c (fun h => h1 (Or.inr (Or.inr (Or.inl h)))) fun n8 =>
    br_c (fun h => h1 (Or.inr (Or.inr (Or.inr h)))) fun n12 => h0 (by rintro (h | h | h | h); exact n6 h; exact n7 h; exact n8 h; exact n12 h)
theorem sf_y_xe4 {post : Int32 → Prop} {c : Nat} (hc : c ≤ 96) : ∀ (m j n : Nat), j + m = c → m < n → post (nI (sf_xn K m j)) → wY_exprEnd_4 post yv yt yo (nI c) ys yf yp yr K A L aI aS M oC oV kS kM kC kV wK wV wS wL n (nI j) := by
  intro m
  induction m with
  | zero =>
    intro j n hj hn hp
    obtain ⟨n, rfl⟩ : ∃ k, n = k + 1 := ⟨n - 1, by omega⟩
    have : j = c := by omega
    subst this
    exact br_t (nI_le (Nat.le_refl _) (by omega)) hp
  | succ m ih =>
    intro j n hj hn hp
    obtain ⟨n, rfl⟩ : ∃ k, n = k + 1 := ⟨n - 1, by omega⟩
    have cl : (nI j).toNatClampNeg = j := nI_clamp (by omega)
    have hi : vp_in (nI j) 96 := vp_in_nI (by omega) (by omega)
    by_cases he : sf_e (K j)
    · have hp' : post (nI (sf_xn K m (j + 1))) := by
        rw [show sf_xn K (m + 1) j = sf_xn K m (j + 1) from if_pos he] at hp; exact hp
      have h2 := sf_e_iff.mp he
      exact br_f (nI_ge (by omega) (by omega)) (And.intro hi (br_f (by rw [cl]; exact h2.1) (And.intro hi (br_t (by rw [cl]; exact h2.2) (nm_r (nI_1 j) (ih (j + 1) n (by omega) (by omega) hp'))))))
    · have hp' : post (nI j) := by
        rw [show sf_xn K (m + 1) j = j from if_neg he] at hp; exact hp
      by_cases h1 : K j < 1
      · exact br_f (nI_ge (by omega) (by omega)) (And.intro hi (br_t (by rw [cl]; exact h1) hp'))
      · exact br_f (nI_ge (by omega) (by omega)) (And.intro hi (br_f (by rw [cl]; exact h1) (And.intro hi (br_f (by rw [cl]; exact fun z => he (sf_e_iff.mpr ⟨h1, z⟩)) hp'))))
theorem sf_y_xe {post : Int32 → Prop} {c p : Nat} (hc : c ≤ 96) (hp : p < c) (h : post (nI (sf_xe K c p))) : wpY_exprEnd post (yv, yt, yo, (nI c), ys, yf, yp, yr, K, A, L, aI, aS, M, oC, oV, kS, kM, kC, kV, wK, wV, wS, wL) (nI p) :=
  nm_r (nI_1 p) ⟨c - (p + 1) + 1, sf_y_xe4 hc (c - (p + 1)) (p + 1) _ (by omega) (by omega) h⟩
/-! opener -/
theorem sf_y_op46 {post : Int32 → Prop} {J : Int32 → Int32 → Prop} {d i : Nat} (hd : d < 1000) (h0 : d = 0 → post (nI i)) (h1 : 0 < d → J (nI (d - 1)) (nI i - 1)) : wY_opener_46 post J (nI d) (nI i) yv yt yo yc ys yf yp yr K A L aI aS M oC oV kS kM kC kV wK wV wS wL := by
  rcases Nat.eq_zero_or_pos d with z | z
  · subst z
    exact br_t rfl (h0 rfl)
  · exact br_f (nI_ne0 z (by omega)) (nm_r (sf_m1 z) (nm_r (Int32.sub_eq_add_neg (nI i) 1).symm (h1 z)))
theorem sf_y_op24 {post : Int32 → Prop} {J : Int32 → Int32 → Prop} {d i : Nat} (hd : d < 1000) (hi : i < 96) (h0 : sf_g (K i) → d = 0 → post (nI i)) (h1 : sf_g (K i) → 0 < d → J (nI (d - 1)) (nI i - 1)) (h2 : ¬ sf_g (K i) → J (nI d) (nI i - 1)) : wY_opener_24 post J (nI d) (nI i) yv yt yo yc ys yf yp yr K A L aI aS M oC oV kS kM kC kV wK wV wS wL := by
  have cl : (nI i).toNatClampNeg = i := nI_clamp (by omega)
  have hv : vp_in (nI i) 96 := vp_in_nI hi (by omega)
  refine And.intro hv ?_
  by_cases a : K i = 8
  · exact br_t (by rw [cl]; exact a) (sf_y_op46 hd (h0 (Or.inl a)) (h1 (Or.inl a)))
  · refine br_f (by rw [cl]; exact a) (And.intro hv ?_)
    by_cases b : K i = 12
    · exact br_t (by rw [cl]; exact b) (sf_y_op46 hd (h0 (Or.inr b)) (h1 (Or.inr b)))
    · exact br_f (by rw [cl]; exact b) (nm_r (Int32.sub_eq_add_neg (nI i) 1).symm (h2 (by rintro (z | z); exact a z; exact b z)))
theorem sf_y_op6 {post : Int32 → Prop} : ∀ (i d n : Nat), i < n → i ≤ 96 → d + i < 1000 → post (sf_opR (sf_OB K i)[d]?) → wY_opener_6 post yv yt yo yc ys yf yp yr K A L aI aS M oC oV kS kM kC kV wK wV wS wL n (nI d) (nI i - 1) := by
  intro i
  induction i with
  | zero =>
    intro d n hn _ _ hp
    obtain ⟨n, rfl⟩ : ∃ k, n = k + 1 := ⟨n - 1, by omega⟩
    exact br_t (by decide) hp
  | succ i ih =>
    intro d n hn h96 hd hp
    obtain ⟨n, rfl⟩ : ∃ k, n = k + 1 := ⟨n - 1, by omega⟩
    have cl : (nI i).toNatClampNeg = i := nI_clamp (by omega)
    have hv : vp_in (nI i) 96 := vp_in_nI (by omega) (by omega)
    rw [nI_pred]
    refine br_f (nI_pos (by omega)) (And.intro hv ?_)
    by_cases e : K i = 11
    · refine br_t (by rw [cl]; exact e) (nm_r (nI_1 d) (sf_y_op24 (by omega) (by omega) (fun g => absurd e (sf_g11 g)) (fun g => absurd e (sf_g11 g)) fun _ => ih (d + 1) n (by omega) (by omega) (by omega) ?_))
      rw [sf_OB_11 e, List.getElem?_tail] at hp; exact hp
    · refine br_f (by rw [cl]; exact e) (sf_y_op24 (by omega) (by omega) (fun g z => ?_) (fun g z => ih (d - 1) n (by omega) (by omega) (by omega) ?_) fun g => ih d n (by omega) (by omega) (by omega) ?_)
      · subst z; rw [sf_OB_g g] at hp; exact hp
      · obtain ⟨d, rfl⟩ : ∃ k, d = k + 1 := ⟨d - 1, by omega⟩
        rw [sf_OB_g g] at hp; exact hp
      · rw [sf_OB_n g e] at hp; exact hp
theorem sf_y_opener {post : Int32 → Prop} {p : Nat} (hp : p ≤ 96) (h : post (sf_opR (sf_OB K p)[0]?)) : wpY_opener post (yv, yt, yo, yc, ys, yf, yp, yr, K, A, L, aI, aS, M, oC, oV, kS, kM, kC, kV, wK, wV, wS, wL) (nI p) :=
  nm_e ⟨p + 1, sf_y_op6 p 0 (p + 1) (by omega) hp (by omega) h⟩
/-! partEnd -/
theorem sf_y_pe67 {post : Int32 → Prop} {J : Int32 → Int32 → Prop} {d i : Nat} (hi : i < 96) (h1 : K i = 11 → 0 < d ∧ J (nI (d - 1)) (nI (i + 1))) (h2 : K i ≠ 11 → J (nI d) (nI (i + 1))) : wY_partEnd_67 post J (nI d) (nI i) yv yt yo yc ys yf yp yr K A L aI aS M oC oV kS kM kC kV wK wV wS wL := by
  have cl : (nI i).toNatClampNeg = i := nI_clamp (by omega)
  have hv : vp_in (nI i) 96 := vp_in_nI hi (by omega)
  by_cases a : K i = 11
  · exact And.intro hv (br_t (by rw [cl]; exact a) (nm_r (sf_m1 (h1 a).1) (nm_r (nI_1 i) (h1 a).2)))
  · exact And.intro hv (br_f (by rw [cl]; exact a) (nm_r (nI_1 i) (h2 a)))
theorem sf_y_pe42 {post : Int32 → Prop} {J : Int32 → Int32 → Prop} {d i : Nat} (hi : i < 96) (h0 : sf_g (K i) → J (nI (d + 1)) (nI (i + 1))) (h1 : K i = 11 → 0 < d ∧ J (nI (d - 1)) (nI (i + 1))) (h2 : ¬ sf_g (K i) → K i ≠ 11 → J (nI d) (nI (i + 1))) : wY_partEnd_42 post J (nI d) (nI i) yv yt yo yc ys yf yp yr K A L aI aS M oC oV kS kM kC kV wK wV wS wL := by
  have cl : (nI i).toNatClampNeg = i := nI_clamp (by omega)
  have hv : vp_in (nI i) 96 := vp_in_nI hi (by omega)
  have G : sf_g (K i) → wY_partEnd_64 post J (nI d) (nI i) yv yt yo yc ys yf yp yr K A L aI aS M oC oV kS kM kC kV wK wV wS wL := fun g => nm_r (nI_1 d) (sf_y_pe67 hi (fun z => absurd z (sf_g11 g)) fun _ => h0 g)
  refine And.intro hv ?_
  by_cases a : K i = 8
  · exact br_t (by rw [cl]; exact a) (G (Or.inl a))
  · refine br_f (by rw [cl]; exact a) (And.intro hv ?_)
    by_cases b : K i = 12
    · exact br_t (by rw [cl]; exact b) (G (Or.inr b))
    · exact br_f (by rw [cl]; exact b) (sf_y_pe67 hi h1 (h2 (by rintro (z | z); exact a z; exact b z)))
theorem sf_y_pe6 {post : Int32 → Prop} {c s q : Nat} (hc : c ≤ 96) (hq : q < c) (H : sf_PE K s q) (hp : post (nI q)) : ∀ (m i n d : Nat), i + m = q → m < n → s < i → (sf_BK K i).length = (sf_BK K (s + 1)).length + d → wY_partEnd_6 post yv yt yo (nI c) ys yf yp yr K A L aI aS M oC oV kS kM kC kV wK wV wS wL n (nI d) (nI i) := by
  intro m
  induction m with
  | zero =>
    intro i n d hi hn hs hd
    obtain ⟨n, rfl⟩ : ∃ k, n = k + 1 := ⟨n - 1, by omega⟩
    have : i = q := by omega
    subst this
    have d0 : d = 0 := by have := H.2.2.1; omega
    subst d0
    have cl : (nI i).toNatClampNeg = i := nI_clamp (by omega)
    have hv : vp_in (nI i) 96 := vp_in_nI (by omega) (by omega)
    refine br_f (nI_ge hq (by omega)) (br_t rfl (And.intro hv ?_))
    rcases H.2.1 with k | k
    · exact br_t (by rw [cl]; exact k) hp
    · exact br_f (by rw [cl, k]; decide) (And.intro hv (br_t (by rw [cl]; exact k) hp))
  | succ m ih =>
    intro i n d hi hn hs hd
    obtain ⟨n, rfl⟩ : ∃ k, n = k + 1 := ⟨n - 1, by omega⟩
    have cl : (nI i).toNatClampNeg = i := nI_clamp (by omega)
    have hv : vp_in (nI i) 96 := vp_in_nI (by omega) (by omega)
    have P := (H.2.2.2 i hs (by omega)).2
    have bl := sf_BK_len K i
    have M : wY_partEnd_42 post (wY_partEnd_6 post yv yt yo (nI c) ys yf yp yr K A L aI aS M oC oV kS kM kC kV wK wV wS wL n) (nI d) (nI i) yv yt yo (nI c) ys yf yp yr K A L aI aS M oC oV kS kM kC kV wK wV wS wL := by
      refine sf_y_pe42 (by omega) (fun g => ih (i + 1) n (d + 1) (by omega) (by omega) (by omega) ?_) (fun e => ?_) fun g e => ih (i + 1) n d (by omega) (by omega) (by omega) ?_
      · rw [sf_BK_g g]; simp only [List.length_cons]; omega
      · have := P (Or.inr e)
        refine ⟨by omega, ih (i + 1) n (d - 1) (by omega) (by omega) (by omega) ?_⟩
        rw [sf_BK_11 e, List.length_tail]; omega
      · have e1 := congrArg List.length (sf_OB_n g e)
        unfold sf_OB at e1
        rw [List.length_map, List.length_map] at e1
        omega
    refine br_f (nI_ge (by omega) (by omega)) ?_
    rcases Nat.eq_zero_or_pos d with z | z
    · subst z
      have n10 : ¬ K i = 10 := fun z => by have := P (Or.inl z); omega
      have n11 : ¬ K i = 11 := fun z => by have := P (Or.inr z); omega
      exact br_t rfl (And.intro hv (br_f (by rw [cl]; exact n10) (And.intro hv (br_f (by rw [cl]; exact n11) M))))
    · exact br_f (nI_ne0 z (by omega)) M
theorem sf_y_partEnd {post : Int32 → Prop} {c s q : Nat} (hc : c ≤ 96) (hq : q < c) (H : sf_PE K s q) (hp : post (nI q)) : wpY_partEnd post (yv, yt, yo, (nI c), ys, yf, yp, yr, K, A, L, aI, aS, M, oC, oV, kS, kM, kC, kV, wK, wV, wS, wL) (nI s) :=
  nm_r (nI_1 s) ⟨q - (s + 1) + 1, sf_y_pe6 hc hq H hp (q - (s + 1)) (s + 1) _ 0 (by have := H.1; omega) (by omega) (by omega) rfl⟩
/-! parens -/
theorem sf_y_pa22 {post : Int32 → Prop} {J : Int32 → Int32 → Prop} {x1 : Int32} {d i : Nat} (hi : i < 96) (h1 : K i = 5 → 0 < d ∧ J (nI (d - 1)) (nI (i + 1))) (h2 : K i ≠ 5 → J (nI d) (nI (i + 1))) : wY_parens_22 post J x1 (nI d) (nI i) yv yt yo yc ys yf yp yr K A L aI aS M oC oV kS kM kC kV wK wV wS wL := by
  have cl : (nI i).toNatClampNeg = i := nI_clamp (by omega)
  have hv : vp_in (nI i) 96 := vp_in_nI hi (by omega)
  by_cases a : K i = 5
  · exact And.intro hv (br_t (by rw [cl]; exact a) (nm_r (sf_m1 (h1 a).1) (nm_r (nI_1 i) (h1 a).2)))
  · exact And.intro hv (br_f (by rw [cl]; exact a) (nm_r (nI_1 i) (h2 a)))
theorem sf_pr_4 {p : Nat} (h : K p = 4) : sf_pr K (p + 1) = sf_pr K p + 1 := if_pos h
theorem sf_pr_5 {p : Nat} (h : K p = 5) : sf_pr K (p + 1) = sf_pr K p - 1 := by
  show (if K p = 4 then _ else if K p = 5 then _ else _) = _
  rw [if_neg (by rw [h]; decide), if_pos h]
theorem sf_pr_n {p : Nat} (h : K p ≠ 4) (h' : K p ≠ 5) : sf_pr K (p + 1) = sf_pr K p := by
  show (if K p = 4 then _ else if K p = 5 then _ else _) = _
  rw [if_neg h, if_neg h']
theorem sf_y_pa4 {post : Int32 → Prop} {p : Nat} (hp96 : p ≤ 96) (hv5 : ∀ i, i < p → K i = 5 → 0 < sf_pr K i) (hp : post (nI (sf_pr K p))) : ∀ (m i n : Nat), i + m = p → m < n → wY_parens_4 post (nI p) yv yt yo yc ys yf yp yr K A L aI aS M oC oV kS kM kC kV wK wV wS wL n (nI (sf_pr K i)) (nI i) := by
  intro m
  induction m with
  | zero =>
    intro i n hi hn
    obtain ⟨n, rfl⟩ : ∃ k, n = k + 1 := ⟨n - 1, by omega⟩
    have : i = p := by omega
    subst this
    exact br_t (nI_le (Nat.le_refl _) (by omega)) hp
  | succ m ih =>
    intro i n hi hn
    obtain ⟨n, rfl⟩ : ∃ k, n = k + 1 := ⟨n - 1, by omega⟩
    have cl : (nI i).toNatClampNeg = i := nI_clamp (by omega)
    have hv : vp_in (nI i) 96 := vp_in_nI (by omega) (by omega)
    have I := ih (i + 1) n (by omega) (by omega)
    refine br_f (nI_ge (by omega) (by omega)) (And.intro hv ?_)
    by_cases a : K i = 4
    · rw [sf_pr_4 a] at I
      exact br_t (by rw [cl]; exact a) (nm_r (nI_1 _) (sf_y_pa22 (by omega) (fun z => absurd (a.symm.trans z) (by decide)) fun _ => I))
    · refine br_f (by rw [cl]; exact a) (sf_y_pa22 (by omega) (fun z => ?_) fun z => ?_)
      · rw [sf_pr_5 z] at I; exact ⟨hv5 i (by omega) z, I⟩
      · rw [sf_pr_n a z] at I; exact I
theorem sf_y_parens {post : Int32 → Prop} {p : Nat} (hp96 : p ≤ 96) (hv5 : ∀ i, i < p → K i = 5 → 0 < sf_pr K i) (hp : post (nI (sf_pr K p))) : wpY_parens post (yv, yt, yo, yc, ys, yf, yp, yr, K, A, L, aI, aS, M, oC, oV, kS, kM, kC, kV, wK, wV, wS, wL) (nI p) :=
  ⟨p + 1, sf_y_pa4 hp96 hv5 hp p 0 _ (by omega) (by omega)⟩
end
end
section
/-! the reference: fits -/
theorem sf_LS_b {K : Nat → Int32} {p : Nat} (h : sf_b (K p)) : sf_LS K (p + 1) = K p := if_pos h
theorem sf_LS_n {K : Nat → Int32} {p : Nat} (h : ¬ sf_b (K p)) : sf_LS K (p + 1) = sf_LS K p := if_neg h
section
variable {yv yt yo yc ys yf yp yr : Int32} {K A L aI aS M oC oV kS kM kC kV wK wV wS wL : Nat → Int32}
theorem sf_y_f43 {post : Int32 → Prop} {k : Int32} (h1 : (k = 1 ∨ k = 2 ∨ k = 4) → post 1) (h0 : ¬ (k = 1 ∨ k = 2 ∨ k = 4) → post 0) : wY_fits_43 post k yv yt yo yc ys yf yp yr K A L aI aS M oC oV kS kM kC kV wK wV wS wL :=
  br_c (fun h => h1 (Or.inl h)) fun n1 => br_c (fun h => h1 (Or.inr (Or.inl h))) fun n2 => br_c (fun h => h1 (Or.inr (Or.inr h))) fun n4 => h0 (by rintro (h | h | h); exact n1 h; exact n2 h; exact n4 h)
/-- the part of an IF that has its ELSE ended before p -/
theorem sf_PE_else {p o s : Nat} {B : List (Nat × Nat)} (hb : sf_BK K p = (o, s) :: B) (hs : s ≠ o) : ∃ q, q < p ∧ sf_PE K o q := by
  have E := sf_EN_BK K p
  rw [hb] at E
  obtain ⟨a1, a2, a3, a4, a5, a6, a7, a8, a9⟩ := E
  dsimp only at a1 a2 a3 a4 a5 a6 a7 a8
  rcases sf_SEG (K := K) (s := o) (Or.inl a3) (p - (o + 1)) with ⟨x, hx, hxo⟩ | ⟨q, q1, q2, q3, o', B', q4⟩
  · rw [show o + 1 + (p - (o + 1)) = p from by omega, hb] at hx
    rcases List.mem_cons.mp hx with z | z
    · rw [z] at hxo; exact absurd hxo hs
    · have := (sf_EN_mem _ x (sf_EN_BK K o) (by rw [a6]; exact z)).2.1
      omega
  · exact ⟨q, by omega, sf_PE_of q3 q4⟩
theorem sf_y_f197 {post : Int32 → Prop} {c p : Nat} (hc : c ≤ 96) (hp : p < c) (hk : K p = 10 ∨ K p = 11) (h1 : sf_FS K p → post 1) (h0 : ¬ sf_FS K p → post 0) : wY_fits_197 post (nI p) (K p) yv yt yo (nI c) ys yf yp yr K A L aI aS M oC oV kS kM kC kV wK wV wS wL := by
  refine sf_y_opener (by omega) ?_
  have nb : ¬ sf_b (K p) := by rcases hk with z | z <;> rw [z] <;> decide
  cases hb : sf_BK K p with
  | nil =>
    have e : (sf_OB K p)[0]? = none := by unfold sf_OB; rw [hb]; rfl
    rw [e]
    refine br_f sf_n1le (h0 ?_)
    rintro (z | ⟨_, z⟩ | ⟨_, o, B, z, _⟩)
    · exact nb z
    · exact z hb
    · rw [hb] at z; exact nomatch z
  | cons x B =>
    obtain ⟨o, s⟩ := x
    have e : (sf_OB K p)[0]? = some o := by unfold sf_OB; rw [hb]; rfl
    have E := sf_EN_BK K p
    rw [hb] at E
    have a1 := E.1
    have a2 := E.2.1
    dsimp only at a1 a2
    have cl : (nI o).toNatClampNeg = o := nI_clamp (by omega)
    have hv : vp_in (nI o) 96 := vp_in_nI (by omega) (by omega)
    rw [e]
    refine br_t (nI_pos' (by omega)) ?_
    rcases hk with k | k
    · refine br_f (by rw [k]; decide) (And.intro hv ?_)
      by_cases k8 : K o = 8
      · refine br_t (by show K (nI o).toNatClampNeg = 8; rw [cl]; exact k8) ?_
        by_cases hs : s = o
        · subst hs
          exact sf_y_partEnd hc hp (sf_PE_of (Or.inl k) hb) (br_t rfl (h1 (Or.inr (Or.inr ⟨k, s, B, hb, k8⟩))))
        · obtain ⟨q, q1, q2⟩ := sf_PE_else hb hs
          refine sf_y_partEnd hc (by omega) q2 (br_f (fun z => ?_) (h0 ?_))
          · have := sf_inj z (by omega) (by omega); omega
          · rintro (z | ⟨z, _⟩ | ⟨_, o', B', z, _⟩)
            · exact nb z
            · rw [k] at z; revert z; decide
            · rw [hb] at z
              have := List.cons.inj z
              have t1 := congrArg Prod.fst this.1
              have t2 := congrArg Prod.snd this.1
              dsimp only at t1 t2
              omega
      · refine br_f (by show ¬ K (nI o).toNatClampNeg = 8; rw [cl]; exact k8) (h0 ?_)
        rintro (z | ⟨z, _⟩ | ⟨_, o', B', z, z2⟩)
        · exact nb z
        · rw [k] at z; revert z; decide
        · rw [hb] at z
          have := List.cons.inj z
          have t1 := congrArg Prod.fst this.1
          dsimp only at t1
          rw [← t1] at z2; exact k8 z2
    · exact br_t k (h1 (Or.inr (Or.inl ⟨k, by rw [hb]; simp⟩)))
theorem sf_y_f173 {post : Int32 → Prop} {c p : Nat} (hc : c ≤ 96) (hp : p < c) (h1 : sf_FS K p → post 1) (h0 : ¬ sf_FS K p → post 0) : wY_fits_173 post (nI p) (K p) yv yt yo (nI c) ys yf yp yr K A L aI aS M oC oV kS kM kC kV wK wV wS wL := by
  refine sf_y_begins (fun hb => br_f (by decide) (h1 (Or.inl hb))) fun nb => br_t rfl ?_
  by_cases a : K p = 11
  · exact br_t a (sf_y_f197 hc hp (Or.inr a) h1 h0)
  · refine br_f a ?_
    by_cases b : K p = 10
    · exact br_t b (sf_y_f197 hc hp (Or.inl b) h1 h0)
    · refine br_f b (h0 ?_)
      rintro (z | ⟨z, _⟩ | ⟨z, _⟩)
      · exact nb z
      · exact a z
      · exact b z
theorem sf_y_f112 {post : Int32 → Prop} {c p : Nat} (hc : c ≤ 96) (hp : p < c) (h9 : sf_g (sf_LS K p) → K p = 9 → post 1) (h9' : sf_g (sf_LS K p) → K p ≠ 9 → post 0) (h1 : ¬ sf_g (sf_LS K p) → sf_FS K p → post 1) (h0 : ¬ sf_g (sf_LS K p) → ¬ sf_FS K p → post 0) :
    ∀ (m i n : Nat), i + m = p → m < n → wY_fits_112 post (nI p) (K p) yv yt yo (nI c) ys yf yp yr K A L aI aS M oC oV kS kM kC kV wK wV wS wL n (sf_LS K i) (nI i) := by
  intro m
  induction m with
  | zero =>
    intro i n hi hn
    obtain ⟨n, rfl⟩ : ∃ k, n = k + 1 := ⟨n - 1, by omega⟩
    have : i = p := by omega
    subst this
    refine br_t (nI_le (Nat.le_refl _) (by omega)) ?_
    by_cases a : sf_LS K i = 8
    · exact br_t a (br_c (h9 (Or.inl a)) (h9' (Or.inl a)))
    · refine br_f a ?_
      by_cases b : sf_LS K i = 12
      · exact br_t b (br_c (h9 (Or.inr b)) (h9' (Or.inr b)))
      · have g : ¬ sf_g (sf_LS K i) := by rintro (z | z); exact a z; exact b z
        exact br_f b (sf_y_f173 hc hp (h1 g) (h0 g))
  | succ m ih =>
    intro i n hi hn
    obtain ⟨n, rfl⟩ : ∃ k, n = k + 1 := ⟨n - 1, by omega⟩
    have cl : (nI i).toNatClampNeg = i := nI_clamp (by omega)
    have hv : vp_in (nI i) 96 := vp_in_nI (by omega) (by omega)
    have I := ih (i + 1) n (by omega) (by omega)
    refine br_f (nI_ge (by omega) (by omega)) (And.intro hv ?_)
    rw [cl]
    refine sf_y_begins (fun hb => br_f (by decide) (And.intro hv ?_)) fun nb => br_t rfl ?_
    · rw [sf_LS_b hb] at I
      exact nm_e (nm_r (nI_1 i) I)
    · rw [sf_LS_n nb] at I
      exact nm_r (nI_1 i) I
theorem sf_y_f79 {post : Int32 → Prop} {c p : Nat} (hc : c ≤ 96) (hp : p < c) (hv5 : ∀ i, i < p → K i = 5 → 0 < sf_pr K i) (h3 : K p = 3 → post 1) (h5 : K p ≠ 3 → 0 < sf_pr K p → K p = 5 → post 1) (h5' : K p ≠ 3 → 0 < sf_pr K p → K p ≠ 5 → post 0)
    (h9 : K p ≠ 3 → ¬ 0 < sf_pr K p → sf_g (sf_LS K p) → K p = 9 → post 1) (h9' : K p ≠ 3 → ¬ 0 < sf_pr K p → sf_g (sf_LS K p) → K p ≠ 9 → post 0)
    (h1 : K p ≠ 3 → ¬ 0 < sf_pr K p → ¬ sf_g (sf_LS K p) → sf_FS K p → post 1) (h0 : K p ≠ 3 → ¬ 0 < sf_pr K p → ¬ sf_g (sf_LS K p) → ¬ sf_FS K p → post 0) : wY_fits_79 post (nI p) (K p) yv yt yo (nI c) ys yf yp yr K A L aI aS M oC oV kS kM kC kV wK wV wS wL := by
  refine br_c h3 fun n3 => sf_y_parens (by omega) hv5 ?_
  have := sf_pr_le (K := K) p
  rcases Nat.eq_zero_or_pos (sf_pr K p) with z | z
  · have z' : ¬ 0 < sf_pr K p := by omega
    exact br_t ((sf_le0 (by omega)).mpr z) ⟨p + 1, sf_y_f112 hc hp (h9 n3 z') (h9' n3 z') (h1 n3 z') (h0 n3 z') p 0 _ (by omega) (by omega)⟩
  · exact br_f (nI_nle z (by omega)) (br_c (h5 n3 z) (h5' n3 z))
theorem sf_y_f24 {post : Int32 → Prop} {c p : Nat} (hc : c ≤ 96) (hp : p < c) (hv5 : ∀ i, i < p → K i = 5 → 0 < sf_pr K i) (h1 : sf_FT K p → post 1) (h0 : ¬ sf_FT K p → post 0) : wY_fits_24 post (nI p) (K p) (sf_bf K p) yv yt yo (nI c) ys yf yp yr K A L aI aS M oC oV kS kM kC kV wK wV wS wL := by
  have F1 : (sf_b (sf_bf K p) ∨ sf_bf K p = 3 ∨ sf_bf K p = 4) → wY_fits_43 post (K p) yv yt yo (nI c) ys yf yp yr K A L aI aS M oC oV kS kM kC kV wK wV wS wL := fun q =>
    sf_y_f43 (fun z => h1 (by unfold sf_FT; rw [if_pos q]; exact z)) fun z => h0 (by unfold sf_FT; rw [if_pos q]; exact z)
  have F2 : ¬ (sf_b (sf_bf K p) ∨ sf_bf K p = 3 ∨ sf_bf K p = 4) → (sf_bf K p = 1 ∨ sf_bf K p = 2 ∨ sf_bf K p = 5) → wY_fits_79 post (nI p) (K p) yv yt yo (nI c) ys yf yp yr K A L aI aS M oC oV kS kM kC kV wK wV wS wL := fun q r =>
    sf_y_f79 hc hp hv5 (fun a => h1 (by unfold sf_FT; rw [if_neg q, if_pos r, if_pos a]; trivial))
      (fun a b d => h1 (by unfold sf_FT; rw [if_neg q, if_pos r, if_neg a, if_pos b]; exact d)) (fun a b d => h0 (by unfold sf_FT; rw [if_neg q, if_pos r, if_neg a, if_pos b]; exact d))
      (fun a b e d => h1 (by unfold sf_FT; rw [if_neg q, if_pos r, if_neg a, if_neg b, if_pos e]; exact d)) (fun a b e d => h0 (by unfold sf_FT; rw [if_neg q, if_pos r, if_neg a, if_neg b, if_pos e]; exact d))
      (fun a b e d => h1 (by unfold sf_FT; rw [if_neg q, if_pos r, if_neg a, if_neg b, if_neg e]; exact d)) (fun a b e d => h0 (by unfold sf_FT; rw [if_neg q, if_pos r, if_neg a, if_neg b, if_neg e]; exact d))
  refine sf_y_begins (fun hb => br_f (by decide) (F1 (Or.inl hb))) fun nb => br_t rfl ?_
  refine br_c (fun a => F1 (Or.inr (Or.inl a))) fun n3 => br_c (fun a => F1 (Or.inr (Or.inr a))) fun n4 => ?_
  have nq : ¬ (sf_b (sf_bf K p) ∨ sf_bf K p = 3 ∨ sf_bf K p = 4) := by rintro (z | z | z); exact nb z; exact n3 z; exact n4 z
  refine br_c (fun a => F2 nq (Or.inl a)) fun n1 => br_c (fun a => F2 nq (Or.inr (Or.inl a))) fun n2 => br_c (fun a => F2 nq (Or.inr (Or.inr a))) fun n5 => ?_
  have nr : ¬ (sf_bf K p = 1 ∨ sf_bf K p = 2 ∨ sf_bf K p = 5) := by rintro (z | z | z); exact n1 z; exact n2 z; exact n5 z
  exact sf_y_f173 hc hp (fun z => h1 (by unfold sf_FT; rw [if_neg nq, if_neg nr]; exact z)) fun z => h0 (by unfold sf_FT; rw [if_neg nq, if_neg nr]; exact z)
theorem sf_y_fits {post : Int32 → Prop} {c p : Nat} (hc : c ≤ 96) (hp : p < c) (hv5 : ∀ i, i < p → K i = 5 → 0 < sf_pr K i) (h1 : sf_FT K p → post 1) (h0 : ¬ sf_FT K p → post 0) : wpY_fits post (yv, yt, yo, (nI c), ys, yf, yp, yr, K, A, L, aI, aS, M, oC, oV, kS, kM, kC, kV, wK, wV, wS, wL) (nI p) := by
  have cl : (nI p).toNatClampNeg = p := nI_clamp (by omega)
  have hv : vp_in (nI p) 96 := vp_in_nI (by omega) (by omega)
  have F := sf_y_f24 (yv := yv) (yt := yt) (yo := yo) (ys := ys) (yf := yf) (yp := yp) (yr := yr) (A := A) (L := L) (aI := aI) (aS := aS) (M := M) (oC := oC) (oV := oV) (kS := kS) (kM := kM) (kC := kC) (kV := kV) (wK := wK) (wV := wV) (wS := wS) (wL := wL) (post := post) hc hp hv5 h1 h0
  refine And.intro hv (nm_r (congrArg K cl) ?_)
  rcases Nat.eq_zero_or_pos p with z | z
  · subst z
    exact br_t (by decide) F
  · refine br_f (nI_nle z (by omega)) ?_
    rw [sf_s1 z]
    have cl' : (nI (p - 1)).toNatClampNeg = p - 1 := nI_clamp (by omega)
    refine And.intro (vp_in_nI (by omega) (by omega)) ?_
    rw [cl']
    have e : sf_bf K p = K (p - 1) := if_neg (by omega)
    rw [e] at F
    exact F
end
end
section
/-! the reference: labels of expressions, flows, the first bad statement -/
def sf_xf (L K A : Nat → Int32) : Nat → Nat → Int32 → Int32
  | _, 0, acc => acc
  | i, m + 1, acc => sf_xf L K A (i + 1) m (if K i = 2 then acc ||| L (A i).toNatClampNeg else acc)
def sf_xl (L K A : Nat → Int32) (c p : Nat) : Int32 := sf_xf L K A (p + 1) (sf_xe K c p - (p + 1)) 0
def sf_fj (L K A : Nat → Int32) (c : Nat) : Int32 → List Nat → Int32
  | acc, [] => acc
  | acc, o :: B => sf_fj L K A c (acc ||| sf_xl L K A c o) B
def sf_fw (L K A : Nat → Int32) (c p : Nat) : Int32 := sf_fj L K A c (sf_xl L K A c p) (sf_OB K p)
def sf_US (ou : Bool) (L K A : Nat → Int32) (c p : Nat) : Prop :=
  (K p = 6 ∧ ¬ (sf_fw L K A c p &&& L (A p).toNatClampNeg) = sf_fw L K A c p) ∨ (K p = 7 ∧ ou = true ∧ ¬ (sf_fw L K A c p &&& A p) = sf_fw L K A c p)
/-- r is the first bad place from p on (or -1) -/
def sf_FU (ou : Bool) (L K A : Nat → Int32) (c p : Nat) (r : Int32) : Prop :=
  (r = -1 ∧ ∀ i, p ≤ i → i < c → ¬ sf_US ou L K A c i) ∨ ∃ q, r = nI q ∧ p ≤ q ∧ q < c ∧ sf_US ou L K A c q ∧ ∀ i, p ≤ i → i < q → ¬ sf_US ou L K A c i
theorem sf_FU_ex (ou : Bool) (L K A : Nat → Int32) (c : Nat) : ∀ (m p : Nat), p + m = c → ∃ r, sf_FU ou L K A c p r := by
  intro m
  induction m with
  | zero => intro p hp; exact ⟨-1, Or.inl ⟨rfl, fun i h1 h2 => absurd h2 (by omega)⟩⟩
  | succ m ih =>
    intro p hp
    by_cases u : sf_US ou L K A c p
    · exact ⟨nI p, Or.inr ⟨p, rfl, Nat.le_refl _, by omega, u, fun i h1 h2 => absurd h2 (by omega)⟩⟩
    · obtain ⟨r, hr⟩ := ih (p + 1) (by omega)
      refine ⟨r, ?_⟩
      have ex : ∀ i (P : Prop), p ≤ i → (p + 1 ≤ i → P) → (i = p → P) → P := fun i P a b d => by
        rcases Nat.lt_or_ge p i with z | z
        · exact b z
        · exact d (by omega)
      rcases hr with ⟨e, h⟩ | ⟨q, e, h1, h2, h3, h4⟩
      · exact Or.inl ⟨e, fun i a b => ex i _ a (fun z => h i z b) fun z => by subst z; exact u⟩
      · exact Or.inr ⟨q, e, by omega, h2, h3, fun i a b => ex i _ a (fun z => h4 i z b) fun z => by subst z; exact u⟩
theorem sf_FU_next {ou : Bool} {L K A : Nat → Int32} {c p : Nat} {r : Int32} (h : sf_FU ou L K A c p r) (hp : p < c) (hu : ¬ sf_US ou L K A c p) : sf_FU ou L K A c (p + 1) r := by
  rcases h with ⟨e, h⟩ | ⟨q, e, h1, h2, h3, h4⟩
  · exact Or.inl ⟨e, fun i a b => h i (by omega) b⟩
  · refine Or.inr ⟨q, e, ?_, h2, h3, fun i a b => h4 i (by omega) b⟩
    rcases Nat.lt_or_ge p q with z | z
    · exact z
    · have : q = p := by omega
      subst this; exact absurd h3 hu
theorem sf_FU_here {ou : Bool} {L K A : Nat → Int32} {c p : Nat} {r : Int32} (h : sf_FU ou L K A c p r) (hp : p < c) (hu : sf_US ou L K A c p) : r = nI p := by
  rcases h with ⟨e, h⟩ | ⟨q, e, h1, h2, h3, h4⟩
  · exact absurd hu (h p (Nat.le_refl _) hp)
  · rcases Nat.lt_or_ge p q with z | z
    · exact absurd hu (h4 p (Nat.le_refl _) z)
    · have : q = p := by omega
      subst this; exact e
theorem sf_FU_end {ou : Bool} {L K A : Nat → Int32} {c : Nat} {r : Int32} (h : sf_FU ou L K A c c r) : r = -1 := by
  rcases h with ⟨e, _⟩ | ⟨q, e, h1, h2, _⟩
  · exact e
  · omega
section
variable {yv yt yo yc ys yf yp yr : Int32} {K A L aI aS M oC oV kS kM kC kV wK wV wS wL : Nat → Int32}
theorem sf_y_xl13 {post : Int32 → Prop} {e : Nat} (he : e ≤ 96) (ha : ∀ i, i < e → K i = 2 → vp_in (A i) 8) : ∀ (m i n : Nat) (acc : Int32), i + m = e → m < n → post (sf_xf L K A i m acc) → wY_exprLabel_13 post (nI e) yv yt yo yc ys yf yp yr K A L aI aS M oC oV kS kM kC kV wK wV wS wL n acc (nI i) := by
  intro m
  induction m with
  | zero =>
    intro i n acc hi hn hp
    obtain ⟨n, rfl⟩ : ∃ k, n = k + 1 := ⟨n - 1, by omega⟩
    have : i = e := by omega
    subst this
    exact br_t (nI_le (Nat.le_refl _) (by omega)) hp
  | succ m ih =>
    intro i n acc hi hn hp
    obtain ⟨n, rfl⟩ : ∃ k, n = k + 1 := ⟨n - 1, by omega⟩
    have cl : (nI i).toNatClampNeg = i := nI_clamp (by omega)
    have hv : vp_in (nI i) 96 := vp_in_nI (by omega) (by omega)
    refine br_f (nI_ge (by omega) (by omega)) (And.intro hv ?_)
    by_cases a : K i = 2
    · have hp' : post (sf_xf L K A (i + 1) m (acc ||| L (A i).toNatClampNeg)) := by
        have q : sf_xf L K A i (m + 1) acc = sf_xf L K A (i + 1) m (if K i = 2 then acc ||| L (A i).toNatClampNeg else acc) := rfl
        rw [q, if_pos a] at hp; exact hp
      exact br_t (by rw [cl]; exact a) (And.intro hv (And.intro (by rw [cl]; exact ha i (by omega) a) (nm_r (e' := acc ||| L (A i).toNatClampNeg) (by rw [cl]) (nm_r (nI_1 i) (ih (i + 1) n _ (by omega) (by omega) hp')))))
    · have hp' : post (sf_xf L K A (i + 1) m acc) := by
        have q : sf_xf L K A i (m + 1) acc = sf_xf L K A (i + 1) m (if K i = 2 then acc ||| L (A i).toNatClampNeg else acc) := rfl
        rw [q, if_neg a] at hp; exact hp
      exact br_f (by rw [cl]; exact a) (nm_r (nI_1 i) (ih (i + 1) n _ (by omega) (by omega) hp'))
theorem sf_y_xl {post : Int32 → Prop} {c p : Nat} (hc : c ≤ 96) (hp : p < c) (ha : ∀ i, i < c → K i = 2 → vp_in (A i) 8) (h : post (sf_xl L K A c p)) : wpY_exprLabel post (yv, yt, yo, (nI c), ys, yf, yp, yr, K, A, L, aI, aS, M, oC, oV, kS, kM, kC, kV, wK, wV, wS, wL) (nI p) := by
  have X := sf_xe_spec (K := K) hp
  refine sf_y_xe hc hp (nm_r (nI_1 p) ⟨sf_xe K c p - (p + 1) + 1, ?_⟩)
  exact sf_y_xl13 (e := sf_xe K c p) (by omega) (fun i hi => ha i (by omega)) (sf_xe K c p - (p + 1)) (p + 1) _ 0 (by omega) (by omega) h
theorem sf_y_fl57 {post : Int32 → Prop} {J : Int32 → Int32 → Int32 → Prop} {c d i : Nat} {acc : Int32} (hc : c ≤ 96) (hi : i < c) (hd : d < 1000) (ha : ∀ i, i < c → K i = 2 → vp_in (A i) 8) (h0 : d = 0 → J (acc ||| sf_xl L K A c i) (nI 0) (nI i - 1)) (h1 : 0 < d → J acc (nI (d - 1)) (nI i - 1)) : wY_flow_57 post J acc (nI d) (nI i) yv yt yo (nI c) ys yf yp yr K A L aI aS M oC oV kS kM kC kV wK wV wS wL := by
  rcases Nat.eq_zero_or_pos d with z | z
  · subst z
    exact br_t rfl (sf_y_xl hc hi ha (nm_e (nm_r (Int32.sub_eq_add_neg (nI i) 1).symm (h0 rfl))))
  · exact br_f (nI_ne0 z (by omega)) (nm_r (sf_m1 z) (nm_r (Int32.sub_eq_add_neg (nI i) 1).symm (h1 z)))
theorem sf_y_fl33 {post : Int32 → Prop} {J : Int32 → Int32 → Int32 → Prop} {c d i : Nat} {acc : Int32} (hc : c ≤ 96) (hi : i < c) (hd : d < 1000) (ha : ∀ i, i < c → K i = 2 → vp_in (A i) 8) (h0 : sf_g (K i) → d = 0 → J (acc ||| sf_xl L K A c i) (nI 0) (nI i - 1)) (h1 : sf_g (K i) → 0 < d → J acc (nI (d - 1)) (nI i - 1)) (h2 : ¬ sf_g (K i) → J acc (nI d) (nI i - 1)) : wY_flow_33 post J acc (nI d) (nI i) yv yt yo (nI c) ys yf yp yr K A L aI aS M oC oV kS kM kC kV wK wV wS wL := by
  have cl : (nI i).toNatClampNeg = i := nI_clamp (by omega)
  have hv : vp_in (nI i) 96 := vp_in_nI (by omega) (by omega)
  refine And.intro hv ?_
  by_cases a : K i = 8
  · exact br_t (by rw [cl]; exact a) (sf_y_fl57 hc hi hd ha (h0 (Or.inl a)) (h1 (Or.inl a)))
  · refine br_f (by rw [cl]; exact a) (And.intro hv ?_)
    by_cases b : K i = 12
    · exact br_t (by rw [cl]; exact b) (sf_y_fl57 hc hi hd ha (h0 (Or.inr b)) (h1 (Or.inr b)))
    · exact br_f (by rw [cl]; exact b) (nm_r (Int32.sub_eq_add_neg (nI i) 1).symm (h2 (by rintro (z | z); exact a z; exact b z)))
theorem sf_y_fl13 {post : Int32 → Prop} {c : Nat} (hc : c ≤ 96) (ha : ∀ i, i < c → K i = 2 → vp_in (A i) 8) : ∀ (i d n : Nat) (acc : Int32), i < n → i ≤ c → d + i < 1000 → post (sf_fj L K A c acc ((sf_OB K i).drop d)) → wY_flow_13 post yv yt yo (nI c) ys yf yp yr K A L aI aS M oC oV kS kM kC kV wK wV wS wL n acc (nI d) (nI i - 1) := by
  intro i
  induction i with
  | zero =>
    intro d n acc hn _ _ hp
    obtain ⟨n, rfl⟩ : ∃ k, n = k + 1 := ⟨n - 1, by omega⟩
    have e : (sf_OB K 0).drop d = [] := List.drop_nil
    rw [e] at hp
    exact br_t (by decide) hp
  | succ i ih =>
    intro d n acc hn hic hd hp
    obtain ⟨n, rfl⟩ : ∃ k, n = k + 1 := ⟨n - 1, by omega⟩
    have cl : (nI i).toNatClampNeg = i := nI_clamp (by omega)
    have hv : vp_in (nI i) 96 := vp_in_nI (by omega) (by omega)
    rw [nI_pred]
    refine br_f (nI_pos (by omega)) (And.intro hv ?_)
    by_cases e : K i = 11
    · refine br_t (by rw [cl]; exact e) (nm_r (nI_1 d) (sf_y_fl33 hc (by omega) (by omega) ha (fun g => absurd e (sf_g11 g)) (fun g => absurd e (sf_g11 g)) fun _ => ih (d + 1) n acc (by omega) (by omega) (by omega) ?_))
      rw [sf_OB_11 e, ← List.drop_one, List.drop_drop] at hp
      rw [Nat.add_comm d 1]; exact hp
    · refine br_f (by rw [cl]; exact e) (sf_y_fl33 hc (by omega) (by omega) ha (fun g z => ih 0 n _ (by omega) (by omega) (by omega) ?_) (fun g z => ih (d - 1) n acc (by omega) (by omega) (by omega) ?_) fun g => ih d n acc (by omega) (by omega) (by omega) ?_)
      · subst z; rw [sf_OB_g g] at hp; exact hp
      · obtain ⟨d, rfl⟩ : ∃ k, d = k + 1 := ⟨d - 1, by omega⟩
        rw [sf_OB_g g] at hp; exact hp
      · rw [sf_OB_n g e] at hp; exact hp
theorem sf_y_flow {post : Int32 → Prop} {c p : Nat} (hc : c ≤ 96) (hp : p < c) (ha : ∀ i, i < c → K i = 2 → vp_in (A i) 8) (h : post (sf_fw L K A c p)) : wpY_flow post (yv, yt, yo, (nI c), ys, yf, yp, yr, K, A, L, aI, aS, M, oC, oV, kS, kM, kC, kV, wK, wV, wS, wL) (nI p) :=
  sf_y_xl hc hp ha (nm_e ⟨p + 1, sf_y_fl13 hc ha p 0 (p + 1) _ (by omega) (by omega) (by omega) h⟩)
theorem sf_y_fu73 {post : Int32 → Prop} {J : Int32 → Prop} {x1 f z0 : Int32} {i : Nat} (h1 : (f &&& z0) = f → J (nI (i + 1))) (h0 : ¬ (f &&& z0) = f → post (nI i)) : wY_firstUnsafe_73 post J x1 (nI i) f z0 yv yt yo yc ys yf yp yr K A L aI aS M oC oV kS kM kC kV wK wV wS wL :=
  br_c (fun h => nm_r (nI_1 i) (h1 h)) h0
theorem sf_y_fu36 {post : Int32 → Prop} {J : Int32 → Prop} {ou : Bool} {x1 : Int32} {c i : Nat} (hc : c ≤ 96) (hi : i < c) (ha : ∀ i, i < c → K i = 2 → vp_in (A i) 8) (hk : K i = 6 ∨ (K i = 7 ∧ ou = true)) (ha6 : K i = 6 → vp_in (A i) 8)
    (h1 : ¬ sf_US ou L K A c i → J (nI (i + 1))) (h0 : sf_US ou L K A c i → post (nI i)) : wY_firstUnsafe_36 post J x1 (nI i) yv yt yo (nI c) ys yf yp yr K A L aI aS M oC oV kS kM kC kV wK wV wS wL := by
  have cl : (nI i).toNatClampNeg = i := nI_clamp (by omega)
  have hv : vp_in (nI i) 96 := vp_in_nI (by omega) (by omega)
  refine sf_y_flow hc hi ha (And.intro hv ?_)
  rcases hk with k | ⟨k, ko⟩
  · refine br_t (by rw [cl]; exact k) (And.intro hv (And.intro (by rw [cl]; exact ha6 k) ?_))
    rw [cl]
    refine sf_y_fu73 (fun z => h1 ?_) fun z => h0 (Or.inl ⟨k, z⟩)
    rintro (⟨_, q⟩ | ⟨q, _⟩)
    · exact q z
    · rw [k] at q; revert q; decide
  · refine br_f (by rw [cl, k]; decide) (And.intro hv ?_)
    rw [cl]
    refine sf_y_fu73 (fun z => h1 ?_) fun z => h0 (Or.inr ⟨k, ko, z⟩)
    rintro (⟨q, _⟩ | ⟨_, _, q⟩)
    · rw [k] at q; revert q; decide
    · exact q z
theorem sf_y_fu2 {post : Int32 → Prop} {ou : Bool} {c : Nat} {r : Int32} (hc : c ≤ 96) (ha : ∀ i, i < c → K i = 2 → vp_in (A i) 8) (ha6 : ∀ i, i < c → K i = 6 → vp_in (A i) 8) (hp : post r) :
    ∀ (m i n : Nat), i + m = c → m < n → sf_FU ou L K A c i r → wY_firstUnsafe_2 post (if ou = true then 1 else 0) yv yt yo (nI c) ys yf yp yr K A L aI aS M oC oV kS kM kC kV wK wV wS wL n (nI i) := by
  intro m
  induction m with
  | zero =>
    intro i n hi hn hr
    obtain ⟨n, rfl⟩ : ∃ k, n = k + 1 := ⟨n - 1, by omega⟩
    have : i = c := by omega
    subst this
    refine br_t (nI_le (Nat.le_refl _) (by omega)) ?_
    rw [← sf_FU_end hr]; exact hp
  | succ m ih =>
    intro i n hi hn hr
    obtain ⟨n, rfl⟩ : ∃ k, n = k + 1 := ⟨n - 1, by omega⟩
    have cl : (nI i).toNatClampNeg = i := nI_clamp (by omega)
    have hv : vp_in (nI i) 96 := vp_in_nI (by omega) (by omega)
    have NX : ¬ sf_US ou L K A c i → wY_firstUnsafe_2 post (if ou = true then 1 else 0) yv yt yo (nI c) ys yf yp yr K A L aI aS M oC oV kS kM kC kV wK wV wS wL n (nI (i + 1)) := fun u => ih (i + 1) n (by omega) (by omega) (sf_FU_next hr (by omega) u)
    have HR : sf_US ou L K A c i → post (nI i) := fun u => by rw [← sf_FU_here hr (by omega) u]; exact hp
    refine br_f (nI_ge (by omega) (by omega)) (And.intro hv ?_)
    by_cases a : K i = 6
    · exact br_t (by rw [cl]; exact a) (sf_y_fu36 hc (by omega) ha (Or.inl a) (ha6 i (by omega)) NX HR)
    · refine br_f (by rw [cl]; exact a) (And.intro hv ?_)
      by_cases b : K i = 7
      · refine br_t (by rw [cl]; exact b) ?_
        cases ou with
        | true => exact br_f (by decide) (sf_y_fu36 hc (by omega) ha (Or.inr ⟨b, rfl⟩) (ha6 i (by omega)) NX HR)
        | false =>
          refine br_t rfl (nm_r (nI_1 i) (NX ?_))
          rintro (⟨q, _⟩ | ⟨_, q, _⟩)
          · exact a q
          · exact nomatch q
      · refine br_f (by rw [cl]; exact b) (nm_r (nI_1 i) (NX ?_))
        rintro (⟨q, _⟩ | ⟨q, _⟩)
        · exact a q
        · exact b q
theorem sf_y_fu {post : Int32 → Prop} {ou : Bool} {c : Nat} {r x : Int32} (hx : x = if ou = true then 1 else 0) (hc : c ≤ 96) (ha : ∀ i, i < c → K i = 2 → vp_in (A i) 8) (ha6 : ∀ i, i < c → K i = 6 → vp_in (A i) 8) (hr : sf_FU ou L K A c 0 r) (hp : post r) : wpY_firstUnsafe post (yv, yt, yo, (nI c), ys, yf, yp, yr, K, A, L, aI, aS, M, oC, oV, kS, kM, kC, kV, wK, wV, wS, wL) x := by
  subst hx
  exact ⟨c + 1, sf_y_fu2 hc ha ha6 hp c 0 _ (by omega) (by omega) hr⟩
end
end
section
/-! the reference: the value of an expression -/
def sf_ap (op a b : Int32) : Int32 := if op = 0 then a + b else if op = 1 then a - b else if op = 2 then a * b else if op = 3 then (if b ≤ a then 0 else 1) else if op = 4 then (if a = b then 1 else 0)
  else if op = 5 then (if a = 0 then 0 else if b = 0 then 0 else 1) else (if a = 0 then (if b = 0 then 0 else 1) else 1)
theorem sf_if {c : Prop} [Decidable c] {a b x : Int32} {P : Int32 → Prop} (h : P x) (hx : x = if c then a else b) {A B : Prop} (ha : P a → A) (hb : P b → B) : (c → A) ∧ (¬ c → B) := by
  subst hx
  by_cases z : c
  · rw [if_pos z] at h; exact br_t z (ha h)
  · rw [if_neg z] at h; exact br_f z (hb h)
theorem sf_c2 {c : Prop} [Decidable c] {a b : Int32} {P : Int32 → Prop} {A B : Prop} (ha : P a → A) (hb : P b → B) (h : P (if c then a else b)) : (c → A) ∧ (¬ c → B) := sf_if h rfl ha hb
theorem sf_lo : ∀ j, j < 7 → ∀ (P : Int32 → Prop), P (nI (5 - sf_pc (nI j))) → (nI j = 2 → P 0) ∧ (¬ nI j = 2 → (nI j = 0 → P 1) ∧ (¬ nI j = 0 → (nI j = 1 → P 1) ∧ (¬ nI j = 1 → (nI j = 3 → P 2) ∧ (¬ nI j = 3 → (nI j = 4 → P 2) ∧ (¬ nI j = 4 → (nI j = 5 → P 3) ∧ (¬ nI j = 5 → P 4)))))) := by
  intro j hj P h
  have hj' : j = 0 ∨ j = 1 ∨ j = 2 ∨ j = 3 ∨ j = 4 ∨ j = 5 ∨ j = 6 := by omega
  rcases hj' with z | z | z | z | z | z | z
  · subst z
    exact br_f (by decide) (br_t (by decide) h)
  · subst z
    exact br_f (by decide) (br_f (by decide) (br_t (by decide) h))
  · subst z
    exact br_t (by decide) h
  · subst z
    exact br_f (by decide) (br_f (by decide) (br_f (by decide) (br_t (by decide) h)))
  · subst z
    exact br_f (by decide) (br_f (by decide) (br_f (by decide) (br_f (by decide) (br_t (by decide) h))))
  · subst z
    exact br_f (by decide) (br_f (by decide) (br_f (by decide) (br_f (by decide) (br_f (by decide) (br_t (by decide) h)))))
  · subst z
    exact br_f (by decide) (br_f (by decide) (br_f (by decide) (br_f (by decide) (br_f (by decide) (br_f (by decide) h)))))
theorem sf_pc_le (o : Int32) : sf_pc o ≤ 5 := by
  unfold sf_pc
  repeat' split
  all_goals omega
theorem sf_pc_in {o : Int32} (h : 1 ≤ sf_pc o) : ∃ j, j < 7 ∧ o = nI j := by
  unfold sf_pc at h
  by_cases a : o = 2
  · exact ⟨2, by omega, a⟩
  rw [if_neg a] at h
  by_cases b : o = 0
  · exact ⟨0, by omega, b⟩
  rw [if_neg b] at h
  by_cases c : o = 1
  · exact ⟨1, by omega, c⟩
  rw [if_neg c] at h
  by_cases d : o = 3
  · exact ⟨3, by omega, d⟩
  rw [if_neg d] at h
  by_cases e : o = 4
  · exact ⟨4, by omega, e⟩
  rw [if_neg e] at h
  by_cases f : o = 5
  · exact ⟨5, by omega, f⟩
  rw [if_neg f] at h
  by_cases g : o = 6
  · exact ⟨6, by omega, g⟩
  rw [if_neg g] at h
  omega
def sf_T (wK wV : Nat → Int32) (j : Nat) : Int32 × Int32 := (wK j, wV j)
theorem sf_2 (n : Nat) : nI n + 2 = nI (n + 2) := nI_add n 2
theorem sf_m2 {n : Nat} (h : 2 ≤ n) : nI n + (-2) = nI (n - 2) := by
  obtain ⟨m, rfl⟩ : ∃ m, n = m + 2 := ⟨n - 2, by omega⟩
  rw [← sf_2, Int32.add_assoc, show (2 : Int32) + (-2) = 0 from rfl, Int32.add_zero, Nat.add_sub_cancel]
section
variable {yv yt yo yc ys yf yp yr : Int32} {K A L aI aS M oC oV kS kM kC kV wK wV wS wL : Nat → Int32}
theorem sf_y_loose {post : Int32 → Prop} {o : Int32} (ho : 1 ≤ sf_pc o) (h : post (nI (5 - sf_pc o))) : wpY_looseness post (yv, yt, yo, yc, ys, yf, yp, yr, K, A, L, aI, aS, M, oC, oV, kS, kM, kC, kV, wK, wV, wS, wL) o := by
  obtain ⟨j, hj, rfl⟩ := sf_pc_in ho
  exact sf_lo j hj post h
theorem sf_y_apply {post : Int32 → Prop} {o a b : Int32} (h : post (sf_ap o a b)) : wpY_apply post (yv, yt, yo, yc, ys, yf, yp, yr, K, A, L, aI, aS, M, oC, oV, kS, kM, kC, kV, wK, wV, wS, wL) o a b := by
  unfold sf_ap at h
  refine sf_c2 (fun h => h) (fun h => ?_) h
  refine sf_c2 (fun h => h) (fun h => ?_) h
  refine sf_c2 (fun h => h) (fun h => ?_) h
  refine sf_c2 (fun h => sf_c2 (fun h => h) (fun h => h) h) (fun h => ?_) h
  refine sf_c2 (fun h => sf_c2 (fun h => h) (fun h => h) h) (fun h => ?_) h
  exact sf_c2 (fun h => sf_c2 (fun h => h) (fun h => sf_c2 (fun h => h) (fun h => h) h) h) (fun h => sf_c2 (fun h => sf_c2 (fun h => h) (fun h => h) h) (fun h => h) h) h
/-- moving the rest two places down -/
theorem sf_y_e331 {post : Int32 → SY → Prop} {J : Int32 → Int32 → (Nat → Int32) → (Nat → Int32) → (Nat → Int32) → (Nat → Int32) → (Nat → Int32) → (Nat → Int32) → (Nat → Int32) → (Nat → Int32) → (Nat → Int32) → (Nat → Int32) → (Nat → Int32) → (Nat → Int32) → (Nat → Int32) → (Nat → Int32) → (Nat → Int32) → (Nat → Int32) → Prop} {sz k keep : Nat} {vK vV : Nat → Int32} (hs : sz ≤ 98) (h2 : 2 ≤ sz) (hk : keep < sz)
    (HJ : ∀ wK wV, (∀ j, j ≤ keep → wK j = vK j ∧ wV j = vV j) → (∀ j, keep < j → j + 2 < sz → wK j = vK (j + 2) ∧ wV j = vV (j + 2)) → J (nI (sz - 2)) (nI (k + 1)) K A L aI aS M oC oV kS kM kC kV wK wV wS wL) :
    ∀ (m i n : Nat) (wK wV : Nat → Int32), i + m = sz → m < n → keep < i → (∀ j, j ≤ keep → wK j = vK j ∧ wV j = vV j) → (∀ j, keep < j → j < i → j + 2 < sz → wK j = vK (j + 2) ∧ wV j = vV (j + 2)) → (∀ j, i ≤ j → wK j = vK j ∧ wV j = vV j) →
      wY_evaluate_331 post J (nI sz) (nI k) yv yt yo yc ys yf yp yr n (nI i) K A L aI aS M oC oV kS kM kC kV wK wV wS wL := by
  intro m
  induction m with
  | zero =>
    intro i n wK wV hi hn hki h1 h2' h3
    obtain ⟨n, rfl⟩ : ∃ k, n = k + 1 := ⟨n - 1, by omega⟩
    refine br_t (by rw [sf_2]; exact nI_le (by omega) (by omega)) (nm_r (sf_m2 h2) (nm_r (nI_1 k) (HJ wK wV h1 fun j q1 q2 => h2' j q1 (by omega) q2)))
  | succ m ih =>
    intro i n wK wV hi hn hki h1 h2' h3
    obtain ⟨n, rfl⟩ : ∃ k, n = k + 1 := ⟨n - 1, by omega⟩
    have cl : (nI i).toNatClampNeg = i := nI_clamp (by omega)
    have cl2 : (nI i + 2).toNatClampNeg = i + 2 := by rw [sf_2]; exact nI_clamp (by omega)
    rcases Nat.lt_or_ge (i + 2) sz with z | z
    · have v1 : vp_in (nI i) 100 := vp_in_nI (by omega) (by omega)
      have v2 : vp_in (nI i + 2) 100 := by rw [sf_2]; exact vp_in_nI (by omega) (by omega)
      refine br_f (by rw [sf_2]; exact nI_ge z (by omega)) (And.intro v2 (And.intro v1 (nm_r (e' := upd wK i (vK (i + 2))) (by rw [cl, cl2, (h3 (i + 2) (by omega)).1]) (And.intro v2 (And.intro v1 (nm_r (e' := upd wV i (vV (i + 2))) (by rw [cl, cl2, (h3 (i + 2) (by omega)).2]) (nm_r (nI_1 i) ?_)))))))
      refine ih (i + 1) n _ _ (by omega) (by omega) (by omega) (fun j hj => ?_) (fun j q1 q2 q3 => ?_) fun j hj => ?_
      · rw [pk_un (by omega), pk_un (by omega)]; exact h1 j hj
      · rcases Nat.lt_or_ge j i with w | w
        · rw [pk_un (by omega), pk_un (by omega)]; exact h2' j q1 w q3
        · have : j = i := by omega
          subst this
          rw [pk_us, pk_us]; exact ⟨rfl, rfl⟩
      · rw [pk_un (by omega), pk_un (by omega)]; exact h3 j (by omega)
    · exact br_t (by rw [sf_2]; exact nI_le z (by omega)) (nm_r (sf_m2 h2) (nm_r (nI_1 k) (HJ wK wV h1 fun j q1 q2 => h2' j q1 (by omega) q2)))
theorem sf_y_e316 {post : Int32 → SY → Prop} {J : Int32 → Int32 → (Nat → Int32) → (Nat → Int32) → (Nat → Int32) → (Nat → Int32) → (Nat → Int32) → (Nat → Int32) → (Nat → Int32) → (Nat → Int32) → (Nat → Int32) → (Nat → Int32) → (Nat → Int32) → (Nat → Int32) → (Nat → Int32) → (Nat → Int32) → (Nat → Int32) → (Nat → Int32) → Prop} {sz k keep : Nat} {val : Int32} (hs : sz ≤ 98) (h2 : 2 ≤ sz) (hk : keep < sz)
    (HJ : ∀ wK' wV', (∀ j, j < keep → sf_T wK' wV' j = sf_T wK wV j) → sf_T wK' wV' keep = (1, val) → (∀ j, keep < j → j + 2 < sz → sf_T wK' wV' j = sf_T wK wV (j + 2)) → J (nI (sz - 2)) (nI (k + 1)) K A L aI aS M oC oV kS kM kC kV wK' wV' wS wL) :
    wY_evaluate_316 post J (nI sz) (nI k) (nI keep) val (nI keep) yv yt yo yc ys yf yp yr K A L aI aS M oC oV kS kM kC kV wK wV wS wL := by
  have cl : (nI keep).toNatClampNeg = keep := nI_clamp (by omega)
  have v1 : vp_in (nI keep) 100 := vp_in_nI (by omega) (by omega)
  refine And.intro v1 (nm_r (e' := upd wV keep val) (by rw [cl]) (And.intro v1 (nm_r (e' := upd wK keep 1) (by rw [cl]) (nm_r (nI_1 keep) ⟨sz + 1, ?_⟩))))
  refine sf_y_e331 hs h2 hk (vK := upd wK keep 1) (vV := upd wV keep val) (fun wK' wV' a b => HJ wK' wV' (fun j hj => ?_) ?_ fun j q1 q2 => ?_) (sz - (keep + 1)) (keep + 1) (sz + 1) _ _ (by omega) (by omega) (by omega) (fun j _ => ⟨rfl, rfl⟩) (fun j q1 q2 => absurd q1 (by omega)) (fun j _ => ⟨rfl, rfl⟩)
  · unfold sf_T; rw [(a j (by omega)).1, (a j (by omega)).2, pk_un (by omega), pk_un (by omega)]
  · unfold sf_T; rw [(a keep (by omega)).1, (a keep (by omega)).2, pk_us, pk_us]
  · unfold sf_T; rw [(b j q1 q2).1, (b j q1 q2).2, pk_un (by omega), pk_un (by omega)]
/-- the operator to apply first between l and r -/
theorem sf_y_e190 {post : Int32 → SY → Prop} {J : Int32 → Int32 → (Nat → Int32) → (Nat → Int32) → (Nat → Int32) → (Nat → Int32) → (Nat → Int32) → (Nat → Int32) → (Nat → Int32) → (Nat → Int32) → (Nat → Int32) → (Nat → Int32) → (Nat → Int32) → (Nat → Int32) → (Nat → Int32) → (Nat → Int32) → (Nat → Int32) → (Nat → Int32) → Prop} {sz k l r : Nat} (hs : sz ≤ 98) (hlr : l < r) (hr : r < sz) (hop : ∀ j, j < sz → wK j = 3 → 1 ≤ sf_pc (wV j))
    (H0 : (∀ j, l < j → j < r → wK j ≠ 3) → wY_evaluate_262 post J (nI sz) (nI k) (nI l) (-1) (nI l) yv yt yo yc ys yf yp yr K A L aI aS M oC oV kS kM kC kV wK wV wS wL)
    (H1 : ∀ a, l < a → a < r → wK a = 3 → (∀ j, l < j → j < a → wK j = 3 → sf_pc (wV j) < sf_pc (wV a)) → (∀ j, a < j → j < r → wK j = 3 → sf_pc (wV j) ≤ sf_pc (wV a)) → wY_evaluate_262 post J (nI sz) (nI k) (nI l) (nI a) (nI (a - 1)) yv yt yo yc ys yf yp yr K A L aI aS M oC oV kS kM kC kV wK wV wS wL) :
    ∀ (m i n : Nat) (x7 : Int32), i + m = r → m < n → l < i → ((x7 = -1 ∧ ∀ j, l < j → j < i → wK j ≠ 3) ∨ ∃ a, x7 = nI a ∧ l < a ∧ a < i ∧ wK a = 3 ∧ (∀ j, l < j → j < a → wK j = 3 → sf_pc (wV j) < sf_pc (wV a)) ∧ (∀ j, a < j → j < i → wK j = 3 → sf_pc (wV j) ≤ sf_pc (wV a))) →
      wY_evaluate_190 post J (nI sz) (nI k) (nI r) (nI l) yv yt yo yc ys yf yp yr K A L aI aS M oC oV kS kM kC kV wK wV wS wL n x7 (nI i) := by
  intro m
  induction m with
  | zero =>
    intro i n x7 hi hn hl h
    obtain ⟨n, rfl⟩ : ∃ k, n = k + 1 := ⟨n - 1, by omega⟩
    have : i = r := by omega
    subst this
    refine br_t (nI_le (Nat.le_refl _) (by omega)) ?_
    rcases h with ⟨e, h⟩ | ⟨a, e, h1, h2, h3, h4, h5⟩
    · subst e; exact br_f sf_n1le (H0 h)
    · subst e
      have M := H1 a h1 h2 h3 h4 h5
      rw [← sf_s1 (by omega)] at M
      exact br_t (nI_pos' (by omega)) M
  | succ m ih =>
    intro i n x7 hi hn hl h
    obtain ⟨n, rfl⟩ : ∃ k, n = k + 1 := ⟨n - 1, by omega⟩
    have cl : (nI i).toNatClampNeg = i := nI_clamp (by omega)
    have v1 : vp_in (nI i) 100 := vp_in_nI (by omega) (by omega)
    have ex : ∀ j (P : Prop), j < i + 1 → (j < i → P) → (j = i → P) → P := fun j P a b d => by
      rcases Nat.lt_or_ge j i with z | z
      · exact b z
      · exact d (by omega)
    refine br_f (nI_ge (by omega) (by omega)) (And.intro v1 ?_)
    by_cases k3 : wK i = 3
    · refine br_t (by rw [cl]; exact k3) ?_
      rcases h with ⟨e, h⟩ | ⟨a, e, h1, h2, h3, h4, h5⟩
      · subst e
        exact br_t sf_n1lt (nm_r (nI_1 i) (ih (i + 1) n _ (by omega) (by omega) (by omega) (Or.inr ⟨i, rfl, hl, by omega, k3, fun j q1 q2 q3 => absurd q3 (h j q1 q2), fun j q1 q2 => absurd q1 (by omega)⟩)))
      · subst e
        have cla : (nI a).toNatClampNeg = a := nI_clamp (by omega)
        refine br_f (nI_pos (by omega)) (And.intro v1 ?_)
        rw [cl]
        refine sf_y_loose (hop i (by omega) k3) (And.intro (vp_in_nI (by omega) (by omega)) ?_)
        rw [cla]
        refine sf_y_loose (hop a (by omega) h3) ?_
        have p1 := sf_pc_le (wV i)
        have p2 := sf_pc_le (wV a)
        have q1 := hop i (by omega) k3
        have q2 := hop a (by omega) h3
        rcases Nat.lt_or_ge (sf_pc (wV a)) (sf_pc (wV i)) with z | z
        · refine br_f (nI_ge (by omega) (by omega)) (nm_r (nI_1 i) (ih (i + 1) n _ (by omega) (by omega) (by omega) (Or.inr ⟨i, rfl, hl, by omega, k3, fun j r1 r2 r3 => ?_, fun j r1 r2 => absurd r1 (by omega)⟩)))
          rcases Nat.lt_trichotomy j a with w | w | w
          · have := h4 j r1 w r3; omega
          · subst w; exact z
          · have := h5 j w r2 r3; omega
        · refine br_t (nI_le (by omega) (by omega)) (nm_r (nI_1 i) (ih (i + 1) n _ (by omega) (by omega) (by omega) (Or.inr ⟨a, rfl, h1, by omega, h3, h4, fun j r1 r2 r3 => ex j _ r2 (fun w => h5 j r1 w r3) fun w => by subst w; exact z⟩)))
    · refine br_f (by rw [cl]; exact k3) (nm_r (nI_1 i) (ih (i + 1) n _ (by omega) (by omega) (by omega) ?_))
      rcases h with ⟨e, h⟩ | ⟨a, e, h1, h2, h3, h4, h5⟩
      · exact Or.inl ⟨e, fun j q1 q2 => ex j _ q2 (fun w => h j q1 w) fun w => by subst w; exact k3⟩
      · exact Or.inr ⟨a, e, h1, by omega, h3, h4, fun j r1 r2 r3 => ex j _ r2 (fun w => h5 j r1 w r3) fun w => by subst w; exact absurd r3 k3⟩
theorem sf_y_e159 {post : Int32 → SY → Prop} {J : Int32 → Int32 → (Nat → Int32) → (Nat → Int32) → (Nat → Int32) → (Nat → Int32) → (Nat → Int32) → (Nat → Int32) → (Nat → Int32) → (Nat → Int32) → (Nat → Int32) → (Nat → Int32) → (Nat → Int32) → (Nat → Int32) → (Nat → Int32) → (Nat → Int32) → (Nat → Int32) → (Nat → Int32) → Prop} {sz k l r : Nat} (hs : sz ≤ 98) (hr : r < sz) (hl4 : l = 0 ∨ wK l = 4) (hlr : ∀ j, l < j → j ≤ r → wK j ≠ 4)
    (H : ∃ n, wY_evaluate_190 post J (nI sz) (nI k) (nI r) (nI l) yv yt yo yc ys yf yp yr K A L aI aS M oC oV kS kM kC kV wK wV wS wL n (-1) (nI (l + 1))) :
    ∀ (m i n : Nat), i = l + m → m < n → i ≤ r → wY_evaluate_159 post J (nI sz) (nI k) (nI r) yv yt yo yc ys yf yp yr K A L aI aS M oC oV kS kM kC kV wK wV wS wL n (nI i) := by
  intro m
  induction m with
  | zero =>
    intro i n hi hn hir
    obtain ⟨n, rfl⟩ : ∃ k, n = k + 1 := ⟨n - 1, by omega⟩
    have : i = l := by omega
    subst this
    rcases Nat.eq_zero_or_pos i with z | z
    · subst z
      exact br_t (by decide) (nm_r (nI_1 0) H)
    · have k4 : wK i = 4 := by
        rcases hl4 with q | q
        · omega
        · exact q
      have cl : (nI i).toNatClampNeg = i := nI_clamp (by omega)
      exact br_f (nI_nle z (by omega)) (And.intro (vp_in_nI (by omega) (by omega)) (br_t (by rw [cl]; exact k4) (nm_r (nI_1 i) H)))
  | succ m ih =>
    intro i n hi hn hir
    obtain ⟨n, rfl⟩ : ∃ k, n = k + 1 := ⟨n - 1, by omega⟩
    have cl : (nI i).toNatClampNeg = i := nI_clamp (by omega)
    exact br_f (nI_nle (by omega) (by omega)) (And.intro (vp_in_nI (by omega) (by omega)) (br_f (by rw [cl]; exact hlr i (by omega) hir) (nm_r (sf_m1 (by omega)) (ih (i - 1) n (by omega) (by omega) (by omega)))))
theorem sf_y_e130 {post : Int32 → SY → Prop} {J : Int32 → Int32 → (Nat → Int32) → (Nat → Int32) → (Nat → Int32) → (Nat → Int32) → (Nat → Int32) → (Nat → Int32) → (Nat → Int32) → (Nat → Int32) → (Nat → Int32) → (Nat → Int32) → (Nat → Int32) → (Nat → Int32) → (Nat → Int32) → (Nat → Int32) → (Nat → Int32) → (Nat → Int32) → Prop} {sz k r : Nat} (hs : sz ≤ 98) (hr : r < sz) (h5 : wK r = 5) (hlt : ∀ j, j < r → wK j ≠ 5)
    (H : ∃ n, wY_evaluate_159 post J (nI sz) (nI k) (nI r) yv yt yo yc ys yf yp yr K A L aI aS M oC oV kS kM kC kV wK wV wS wL n (nI r)) :
    ∀ (m i n : Nat), i + m = r → m < n → wY_evaluate_130 post J (nI sz) (nI k) yv yt yo yc ys yf yp yr K A L aI aS M oC oV kS kM kC kV wK wV wS wL n (nI i) := by
  intro m
  induction m with
  | zero =>
    intro i n hi hn
    obtain ⟨n, rfl⟩ : ∃ k, n = k + 1 := ⟨n - 1, by omega⟩
    have : i = r := by omega
    subst this
    have cl : (nI i).toNatClampNeg = i := nI_clamp (by omega)
    rcases Nat.lt_or_ge i (sz - 1) with z | z
    · exact br_f (by rw [sf_s1 (by omega)]; exact nI_ge z (by omega)) (And.intro (vp_in_nI (by omega) (by omega)) (br_t (by rw [cl]; exact h5) H))
    · exact br_t (by rw [sf_s1 (by omega)]; exact nI_le z (by omega)) H
  | succ m ih =>
    intro i n hi hn
    obtain ⟨n, rfl⟩ : ∃ k, n = k + 1 := ⟨n - 1, by omega⟩
    have cl : (nI i).toNatClampNeg = i := nI_clamp (by omega)
    exact br_f (by rw [sf_s1 (by omega)]; exact nI_ge (by omega) (by omega)) (And.intro (vp_in_nI (by omega) (by omega)) (br_f (by rw [cl]; exact hlt i (by omega)) (nm_r (nI_1 i) (ih (i + 1) n (by omega) (by omega)))))
end
end
section
/-! the reference's value, whole -/
theorem sf_last4 (wK : Nat → Int32) : ∀ r, ∃ l, l ≤ r ∧ (l = 0 ∨ wK l = 4) ∧ ∀ j, l < j → j ≤ r → wK j ≠ 4 := by
  intro r
  induction r with
  | zero => exact ⟨0, Nat.le_refl _, Or.inl rfl, fun j a b => absurd a (by omega)⟩
  | succ r ih =>
    by_cases h : wK (r + 1) = 4
    · exact ⟨r + 1, Nat.le_refl _, Or.inr h, fun j a b => absurd a (by omega)⟩
    · obtain ⟨l, a, b, d⟩ := ih
      refine ⟨l, by omega, b, fun j e f => ?_⟩
      rcases Nat.lt_or_ge j (r + 1) with z | z
      · exact d j e (by omega)
      · have : j = r + 1 := by omega
        subst this; exact h
theorem sf_st_5 {f : sf_F} {x y : Int32} {s : sf_S} : sf_st f (5, x) s = sf_st f (5, y) s := by
  unfold sf_st
  simp
section
variable {yv yt yo yc ys yf yp yr : Int32} {K A L aI aS M oC oV kS kM kC kV wK wV wS wL : Nat → Int32}
theorem sf_y_e115 {post : Int32 → SY → Prop} {v : Int32} (hp : ∀ wK wV, post v (yv, yt, yo, yc, ys, yf, yp, yr, K, A, L, aI, aS, M, oC, oV, kS, kM, kC, kV, wK, wV, wS, wL)) : ∀ (n sz k : Nat) (wK wV : Nat → Int32), sz < n → sz + 2 * k ≤ 98 → sf_GD sf_ap (sf_T wK wV) sz v → wY_evaluate_115 post yv yt yo yc ys yf yp yr n (nI sz) (nI k) K A L aI aS M oC oV kS kM kC kV wK wV wS wL := by
  intro n
  induction n with
  | zero => intro sz k wK wV h; exact absurd h (by omega)
  | succ n ih =>
    intro sz k wK wV hn hk G
    have G0 := G
    obtain ⟨Go, ⟨z, z2⟩ | ⟨G2, G3, G4⟩⟩ := G
    · subst z
      refine br_f (nI_ge (b := 96) (by omega) (by omega)) (br_t (by decide) ?_)
      have : wV 0 = v := z2
      rw [this]; exact hp wK wV
    · have hop : ∀ j, j < sz → wK j = 3 → 1 ≤ sf_pc (wV j) := Go
      have h0 : wK 0 = 4 := G3
      have hlast : wK (sz - 1) = 5 := by
        rw [show sz - 1 = (sz - 2) + 1 from by omega] at G4
        have := sf_rn_last G4
        rw [show 1 + (sz - 2) = sz - 1 from by omega] at this
        exact this
      obtain ⟨r, hr5, hrl⟩ := pk_least (fun j => wK j = 5) ⟨_, hlast⟩
      have hr : r < sz := by
        rcases Nat.lt_or_ge (sz - 1) r with q | q
        · exact absurd hlast (hrl _ q)
        · omega
      obtain ⟨l, l1, l2, l3⟩ := sf_last4 wK r
      have l4 : wK l = 4 := by
        rcases l2 with q | q
        · rw [q]; exact h0
        · exact q
      have hlr : l < r := by
        rcases Nat.lt_or_ge l r with q | q
        · exact q
        · have : l = r := by omega
          rw [this, hr5] at l4; exact absurd l4 (by decide)
      have hin : ∀ j, l < j → j < r → (sf_T wK wV j).1 ≠ 4 ∧ (sf_T wK wV j).1 ≠ 5 := fun j a b => ⟨l3 j a (by omega), hrl j b⟩
      refine br_f (nI_ge (b := 96) (by omega) (by omega)) (br_f (nI_ge (a := 1) (by omega) (by omega)) ⟨r + 1, sf_y_e130 (by omega) hr hr5 hrl ⟨r + 1, sf_y_e159 (by omega) hr l2 l3 ⟨r + 1, sf_y_e190 (by omega) hlr hr hop ?_ ?_ (r - (l + 1)) (l + 1) (r + 1) (-1) (by omega) (by omega) (by omega) (Or.inl ⟨rfl, fun j a b => absurd a (by omega)⟩)⟩ (r - l) r (r + 1) (by omega) (by omega) (Nat.le_refl _)⟩ r 0 (r + 1) (by omega) (by omega)⟩)
      · intro hno
        have cl : (nI l + 1).toNatClampNeg = l + 1 := by rw [nI_1]; exact nI_clamp (by omega)
        refine br_f sf_n1le (And.intro (by rw [nI_1]; exact vp_in_nI (by omega) (by omega)) ?_)
        rw [cl]
        refine sf_y_e316 (by omega) G2 (by omega) fun wK' wV' a b d => ?_
        have E := sf_ev0 (T' := sf_T wK' wV') G0 (by omega) hlr hr l4 hr5 hin hno a b d
        exact ih (sz - 2) (k + 1) wK' wV' (by omega) (by omega) E.2
      · intro a a1 a2 a3 a4 a5
        have c0 : (nI a).toNatClampNeg = a := nI_clamp (by omega)
        have c1 : (nI a - 1).toNatClampNeg = a - 1 := by rw [sf_s1 (by omega)]; exact nI_clamp (by omega)
        have c2 : (nI a + 1).toNatClampNeg = a + 1 := by rw [nI_1]; exact nI_clamp (by omega)
        refine br_t (nI_pos' (by omega)) (And.intro (vp_in_nI (by omega) (by omega)) (And.intro (by rw [sf_s1 (by omega)]; exact vp_in_nI (by omega) (by omega)) (And.intro (by rw [nI_1]; exact vp_in_nI (by omega) (by omega)) ?_)))
        rw [c0, c1, c2]
        refine sf_y_apply (sf_y_e316 (by omega) G2 (by omega) fun wK' wV' b d e => ?_)
        have E := sf_ev1 (T' := sf_T wK' wV') G0 (by omega) hlr hr l4 hr5 hin a1 a2 a3 a4 a5 b d e
        exact ih (sz - 2) (k + 1) wK' wV' (by omega) (by omega) E.2.2
theorem sf_y_e20 {post : Int32 → SY → Prop} {p e : Nat} (he : e ≤ 96) (ha : ∀ i, i < e → K i = 2 → vp_in (A i) 8)
    (HF : ∀ wK wV, wK 0 = 4 → (∀ t, 1 ≤ t → t < e - p → sf_T wK wV t = sf_tk (fun x => x) (fun x => M x.toNatClampNeg) K A (p + t)) → ∃ n, wY_evaluate_115 post yv yt yo yc ys yf yp yr n (nI (e - p + 1)) 0 K A L aI aS M oC oV kS kM kC kV (upd wK (e - p) 5) wV wS wL) :
    ∀ (m i n : Nat) (wK wV : Nat → Int32), i + m = e → m < n → p < i → wK 0 = 4 → (∀ t, 1 ≤ t → t < i - p → sf_T wK wV t = sf_tk (fun x => x) (fun x => M x.toNatClampNeg) K A (p + t)) →
      wY_evaluate_20 post (nI e) yv yt yo yc ys yf yp yr n (nI (i - p)) (nI i) K A L aI aS M oC oV kS kM kC kV wK wV wS wL := by
  intro m
  induction m with
  | zero =>
    intro i n wK wV hi hn hpi h0 hT
    obtain ⟨n, rfl⟩ : ∃ k, n = k + 1 := ⟨n - 1, by omega⟩
    have : i = e := by omega
    subst this
    have cl : (nI (i - p)).toNatClampNeg = i - p := nI_clamp (by omega)
    exact br_t (nI_le (Nat.le_refl _) (by omega)) (And.intro (vp_in_nI (by omega) (by omega)) (nm_r (e' := upd wK (i - p) 5) (by rw [cl]) (nm_r (nI_1 _) (HF wK wV h0 hT))))
  | succ m ih =>
    intro i n wK wV hi hn hpi h0 hT
    obtain ⟨n, rfl⟩ : ∃ k, n = k + 1 := ⟨n - 1, by omega⟩
    have cl : (nI i).toNatClampNeg = i := nI_clamp (by omega)
    have cp : (nI (i - p)).toNatClampNeg = i - p := nI_clamp (by omega)
    have hv : vp_in (nI i) 96 := vp_in_nI (by omega) (by omega)
    have hw : vp_in (nI (i - p)) 100 := vp_in_nI (by omega) (by omega)
    have step : ∀ kk vv, (kk, vv) = sf_tk (fun x => x) (fun x => M x.toNatClampNeg) K A i → wY_evaluate_20 post (nI e) yv yt yo yc ys yf yp yr n (nI (i - p + 1)) (nI (i + 1)) K A L aI aS M oC oV kS kM kC kV (upd wK (i - p) kk) (upd wV (i - p) vv) wS wL := by
      intro kk vv hkv
      have := ih (i + 1) n (upd wK (i - p) kk) (upd wV (i - p) vv) (by omega) (by omega) (by omega) (by rw [pk_un (by omega)]; exact h0) (fun t t1 t2 => ?_)
      · rw [show i + 1 - p = i - p + 1 from by omega] at this; exact this
      · rcases Nat.lt_or_ge t (i - p) with z | z
        · have := hT t t1 z
          unfold sf_T at this ⊢
          rw [pk_un (by omega), pk_un (by omega)]; exact this
        · have : t = i - p := by omega
          subst this
          unfold sf_T
          rw [pk_us, pk_us, show p + (i - p) = i from by omega]; exact hkv
    refine br_f (nI_ge (by omega) (by omega)) (And.intro hv ?_)
    by_cases k2 : K i = 2
    · refine br_t (by rw [cl]; exact k2) (And.intro hw (nm_r (e' := upd wK (i - p) 1) (by rw [cp]) (And.intro hv (br_t (by rw [cl]; exact k2) (And.intro hv (And.intro (by rw [cl]; exact ha i (by omega) k2) (And.intro hw (nm_r (e' := upd wV (i - p) (M (A i).toNatClampNeg)) (by rw [cp, cl]) (nm_r (nI_1 _) (nm_r (nI_1 i) ?_))))))))))
      refine step _ _ ?_
      unfold sf_tk
      rw [if_pos k2, if_neg (by rw [k2]; decide), if_pos k2]
    · refine br_f (by rw [cl]; exact k2) (And.intro hv (And.intro hw (nm_r (e' := upd wK (i - p) (K i)) (by rw [cp, cl]) (And.intro hv (br_f (by rw [cl]; exact k2) (And.intro hv (And.intro hw (nm_r (e' := upd wV (i - p) (A i)) (by rw [cp, cl]) (nm_r (nI_1 _) (nm_r (nI_1 i) ?_))))))))))
      refine step _ _ ?_
      unfold sf_tk
      rw [if_neg k2, if_neg k2]
      by_cases k1 : K i = 1
      · rw [if_pos k1]
      · rw [if_neg k1]
theorem sf_tk_3 {nm vr : Int32 → Int32} {i : Nat} (h : (sf_tk nm vr K A i).1 = 3) : K i = 3 ∧ (sf_tk nm vr K A i).2 = A i := by
  unfold sf_tk at h ⊢
  dsimp only at h ⊢
  by_cases k2 : K i = 2
  · rw [if_pos k2] at h; exact absurd h (by decide)
  · rw [if_neg k2] at h
    refine ⟨h, ?_⟩
    rw [if_neg (by rw [h]; decide), if_neg k2]
theorem sf_y_eval {post : Int32 → SY → Prop} {c p : Nat} {v : Int32} (hc : c ≤ 96) (hp : p < c) (ha : ∀ i, i < c → K i = 2 → vp_in (A i) 8) (hop : ∀ i, i < c → K i = 3 → vp_in (A i) 7)
    (HV : (sf_rn sf_ap (sf_tk (fun x => x) (fun x => M x.toNatClampNeg) K A) (p + 1) (sf_xe K c p - (p + 1)) (true, [], [-1])).bind (sf_st sf_ap (5, 0)) = some (false, [v], []))
    (h : ∀ wK wV, post v (yv, yt, yo, (nI c), ys, yf, yp, yr, K, A, L, aI, aS, M, oC, oV, kS, kM, kC, kV, wK, wV, wS, wL)) : wpY_evaluate post (yv, yt, yo, (nI c), ys, yf, yp, yr, K, A, L, aI, aS, M, oC, oV, kS, kM, kC, kV, wK, wV, wS, wL) (nI p) := by
  have X := sf_xe_spec (K := K) hp
  refine sf_y_xe hc hp (nm_e (nm_r (nI_1 p) ⟨sf_xe K c p - (p + 1) + 1, ?_⟩))
  have R := sf_y_e20 (post := post) (yv := yv) (yt := yt) (yo := yo) (yc := nI c) (ys := ys) (yf := yf) (yp := yp) (yr := yr) (K := K) (A := A) (L := L) (aI := aI) (aS := aS) (M := M) (oC := oC) (oV := oV) (kS := kS) (kM := kM) (kC := kC) (kV := kV) (wS := wS) (wL := wL) (p := p) (e := sf_xe K c p) (by omega) (fun i hi => ha i (by omega)) ?_
    (sf_xe K c p - (p + 1)) (p + 1) (sf_xe K c p - (p + 1) + 1) (upd wK 0 4) wV (by omega) (by omega) (by omega) pk_us (fun t t1 t2 => absurd t2 (by omega))
  · rw [show p + 1 - p = 1 from by omega] at R
    exact R
  · intro wK' wV' h0 hT
    generalize he : sf_xe K c p = e at *
    refine ⟨e - p + 2, sf_y_e115 (fun a b => h a b) (e - p + 2) (e - p + 1) 0 _ _ (by omega) (by omega) ⟨?_, Or.inr ⟨by omega, ?_, ?_⟩⟩⟩
    · intro j hj hh
      rcases Nat.eq_zero_or_pos j with z | z
      · subst z
        have : upd wK' (e - p) 5 0 = 3 := hh
        rw [pk_un (by omega), h0] at this; exact absurd this (by decide)
      · rcases Nat.lt_or_ge j (e - p) with w | w
        · have q := hT j z w
          have q' : sf_T (upd wK' (e - p) 5) wV' j = sf_tk (fun x => x) (fun x => M x.toNatClampNeg) K A (p + j) := by
            rw [← q]; unfold sf_T; rw [pk_un (by omega)]
          rw [q'] at hh ⊢
          rw [(sf_tk_3 hh).2]
          exact sf_pcop (hop (p + j) (by omega) (sf_tk_3 hh).1)
        · have : j = e - p := by omega
          subst this
          have : upd wK' (e - p) 5 (e - p) = 3 := hh
          rw [pk_us] at this; exact absurd this (by decide)
    · show upd wK' (e - p) 5 0 = 4
      rw [pk_un (by omega)]; exact h0
    · rw [show e - p + 1 - 1 = (e - (p + 1)) + 1 from by omega, sf_rn_snoc, show 1 + (e - (p + 1)) = e - p from by omega]
      rw [sf_rn_congr (T' := sf_tk (fun x => x) (fun x => M x.toNatClampNeg) K A) (e - (p + 1)) 1 (p + 1) _ (fun j hj => ?_)]
      · have : sf_T (upd wK' (e - p) 5) wV' (e - p) = (5, wV' (e - p)) := by unfold sf_T; rw [pk_us]
        rw [this, ← HV]
        congr 1
      · have q := hT (1 + j) (by omega) (by omega)
        rw [show p + 1 + j = p + (1 + j) from by omega, ← q]
        unfold sf_T; rw [pk_un (by omega)]
end
end
section
/-! the code of the tokens below p -/
def sf_np : List Int32 → Nat
  | [] => 0
  | o :: os => (if o = -1 then 0 else 1) + sf_np os
def sf_nq : List Int32 → Nat
  | [] => 0
  | o :: os => (if o = -1 then 1 else 0) + sf_nq os
theorem sf_npq : ∀ (os : List Int32), sf_np os + sf_nq os = os.length := by
  intro os
  induction os with
  | nil => rfl
  | cons o os ih =>
    show (if o = -1 then 0 else 1) + sf_np os + ((if o = -1 then 1 else 0) + sf_nq os) = os.length + 1
    by_cases h : o = -1
    · rw [if_pos h, if_pos h]; omega
    · rw [if_neg h, if_neg h]; omega
theorem sf_ad_pr {K : Nat → Int32} : ∀ (p : Nat), sf_ad K p + sf_pr K p ≤ p := by
  intro p
  induction p with
  | zero => exact Nat.le_refl _
  | succ p ih =>
    rw [sf_ad_s]
    have h1 := sf_cw_le K p
    by_cases a : K p = 4
    · rw [sf_pr_4 a, sf_cw_0 (Or.inl a)]; omega
    · by_cases b : K p = 5
      · rw [sf_pr_5 b, sf_cw_0 (Or.inr (Or.inl b))]; omega
      · rw [sf_pr_n a b]; omega
def sf_hd (K : Nat → Int32) (s : Nat) : Nat := sf_ad K s + (if K s = 12 then 1 else 0)
def sf_nb (K : Nat → Int32) (c i : Nat) : Nat := if sf_g (K i) then sf_xe K c i + 1 else if sf_b (K i) then sf_xe K c i else i + 1
def sf_ti (K : Nat → Int32) (c i : Nat) : Nat := sf_ad K (sf_nb K c i) - 1
def sf_ja (K : Nat → Int32) (c s : Nat) : Nat := if K s = 10 then sf_ad K s else sf_ti K c s
def sf_CV (nv : Nat) (cO cA : Nat → Int32) (a b : Nat) : Prop := ∀ j, a ≤ j → j < b → (cO j = 1 ∨ (cO j = 2 ∧ vp_in (cA j) nv) ∨ cO j = 3)
def sf_EX (nv : Nat) (K A cO cA : Nat → Int32) (s e a b : Nat) : Prop := a ≤ b ∧ sf_CV nv cO cA a b ∧
  ∀ (f : sf_F) (nm vr : Int32 → Int32), ∃ v, (sf_rn f (sf_tk nm vr K A) (s + 1) (e - (s + 1)) (true, [], [-1])).bind (sf_st f (5, 0)) = some (false, [v], []) ∧ sf_cr f nm vr cO cA a (b - a) [] = [v]
def sf_CB (nv c : Nat) (K A cO cA cT : Nat → Int32) (p i : Nat) : Prop :=
  (K i = 12 → cO (sf_ad K i) = 12 ∧ cT (sf_ad K i) = nI i) ∧ sf_nb K c i ≤ p ∧ (sf_g (K i) → K (sf_xe K c i) = 9) ∧ sf_EX nv K A cO cA i (sf_xe K c i) (sf_hd K i) (sf_ti K c i) ∧
  cO (sf_ti K c i) = (if sf_g (K i) then 9 else K i) ∧ cT (sf_ti K c i) = nI i ∧ (¬ sf_g (K i) → cA (sf_ti K c i) = A i) ∧ sf_ti K c i + 1 = sf_ad K (sf_nb K c i)
def sf_CD (nv c : Nat) (K A cO cA cT cE : Nat → Int32) (p : Nat) : Prop :=
  (∀ i, i < p → sf_b (K i) → sf_CB nv c K A cO cA cT p i) ∧ (∀ i, i < p → K i = 10 → cO (sf_ad K i) = 10) ∧
  (∀ i, i < p → K i = 11 → ∀ o s B, sf_BK K i = (o, s) :: B → K o = 12 → cO (sf_ad K i) = 11 ∧ cA (sf_ad K i) = nI (sf_ad K o)) ∧
  (∀ q, q < p → (K q = 10 ∨ K q = 11) → ∀ o s B, sf_BK K q = (o, s) :: B → cA (sf_ja K c s) = nI (sf_ad K (q + 1))) ∧
  (∀ q, q < p → K q = 11 → ∀ o s B, sf_BK K q = (o, s) :: B → cE (sf_ti K c o) = nI (sf_ad K (q + 1))) ∧
  (∀ i, i < p → sf_six (K i) → sf_nb K c i ≤ p ∧ (sf_nb K c i = p ∨ sf_six (K (sf_nb K c i)))) ∧ (p = 0 ∨ sf_six (K 0))
theorem sf_EX_agree {nv s e a b : Nat} {K A cO cA cO' cA' : Nat → Int32} (h : sf_EX nv K A cO cA s e a b) (ha : ∀ j, a ≤ j → j < b → cO' j = cO j ∧ cA' j = cA j) : sf_EX nv K A cO' cA' s e a b := by
  obtain ⟨h1, h2, h3⟩ := h
  refine ⟨h1, fun j x y => ?_, fun f nm vr => ?_⟩
  · rw [(ha j x y).1, (ha j x y).2]; exact h2 j x y
  · obtain ⟨v, q1, q2⟩ := h3 f nm vr
    refine ⟨v, q1, ?_⟩
    rw [sf_cr_congr _ _ _ (fun j x y => ha j x (by omega))]; exact q2
section
variable {nv c p : Nat} {K A cO cA cT cE cO' cA' cT' cE' : Nat → Int32}
theorem sf_g_b {k : Int32} (h : sf_g k) : sf_b k := by
  rcases h with h | h
  · exact Or.inr (Or.inr (Or.inl h))
  · exact Or.inr (Or.inr (Or.inr h))
theorem sf_b_six {k : Int32} (h : sf_b k) : sf_six k := by
  rcases h with h | h | h | h
  · exact Or.inl h
  · exact Or.inr (Or.inl h)
  · exact Or.inr (Or.inr (Or.inl h))
  · exact Or.inr (Or.inr (Or.inr (Or.inr (Or.inr h))))
/-- entries' part beginnings have a jump instruction below ad p -/
theorem sf_CD_ja {q o s : Nat} {B : List (Nat × Nat)} (D : sf_CD nv c K A cO cA cT cE p) (hq : q ≤ p) (hb : sf_BK K q = (o, s) :: B) :
    s < q ∧ o ≤ s ∧ sf_g (K o) ∧ sf_ja K c s < sf_ad K p ∧ (cO (sf_ja K c s) = 9 ∨ cO (sf_ja K c s) = 10) ∧ (K s = 10 → cO (sf_ja K c s) = 10) ∧ (K s ≠ 10 → cO (sf_ja K c s) = 9 ∧ cT (sf_ja K c s) = nI s) ∧ sf_ti K c o < sf_ad K p ∧ cO (sf_ti K c o) = 9 ∧ cT (sf_ti K c o) = nI o := by
  have E := sf_EN_BK K q
  rw [hb] at E
  obtain ⟨a1, a2, a3, a4, _⟩ := E
  dsimp only at a1 a2 a3 a4
  have T : ∀ x, x < p → sf_g (K x) → sf_ti K c x < sf_ad K p ∧ cO (sf_ti K c x) = 9 ∧ cT (sf_ti K c x) = nI x := by
    intro x hx hg
    obtain ⟨b1, b2, b3, b4, b5, b6, b7, b8⟩ := D.1 x hx (sf_g_b hg)
    rw [if_pos hg] at b5
    have := sf_ad_mono (K := K) b2
    exact ⟨by omega, b5, b6⟩
  have To := T o (by omega) a3
  refine ⟨a2, a1, a3, ?_⟩
  by_cases k : K s = 10
  · have e : sf_ja K c s = sf_ad K s := if_pos k
    rw [e]
    have l : sf_ad K s < sf_ad K p := sf_ad_lt (by omega) (sf_cw_1 (by simp [k]))
    have m := D.2.1 s (by omega) k
    exact ⟨l, Or.inr m, fun _ => m, fun z => absurd k z, To⟩
  · have e : sf_ja K c s = sf_ti K c s := if_neg k
    have : o = s := by
      rcases a4 with z | z
      · exact z
      · exact absurd z k
    subst this
    rw [e]
    exact ⟨To.1, Or.inl To.2.1, fun z => absurd z k, fun _ => To.2, To⟩
theorem sf_CD_agree (D : sf_CD nv c K A cO cA cT cE p) (ha : ∀ j, j < sf_ad K p → cO' j = cO j ∧ cA' j = cA j ∧ cT' j = cT j ∧ cE' j = cE j) : sf_CD nv c K A cO' cA' cT' cE' p := by
  refine ⟨fun i hi hb => ?_, fun i hi hk => ?_, fun i hi hk o s B hb ho => ?_, fun q hq hk o s B hb => ?_, fun q hq hk o s B hb => ?_, D.2.2.2.2.2⟩
  · obtain ⟨b1, b2, b3, b4, b5, b6, b7, b8⟩ := D.1 i hi hb
    have m := sf_ad_mono (K := K) b2
    have hh : sf_hd K i ≤ sf_ti K c i := b4.1
    have ht := ha (sf_ti K c i) (by omega)
    refine ⟨fun k => ?_, b2, b3, sf_EX_agree b4 (fun j x y => ⟨(ha j (by omega)).1, (ha j (by omega)).2.1⟩), by rw [ht.1]; exact b5, by rw [ht.2.2.1]; exact b6, fun g => by rw [ht.2.1]; exact b7 g, b8⟩
    have : sf_hd K i = sf_ad K i + 1 := by unfold sf_hd; rw [if_pos k]
    have hi' := ha (sf_ad K i) (by omega)
    rw [hi'.1, hi'.2.2.1]; exact b1 k
  · rw [(ha _ (sf_ad_lt hi (sf_cw_1 (by simp [hk])))).1]; exact D.2.1 i hi hk
  · have : sf_ad K i < sf_ad K p := sf_ad_lt hi (by rw [sf_cw_E hk hb, if_pos ho])
    rw [(ha _ this).1, (ha _ this).2.1]; exact D.2.2.1 i hi hk o s B hb ho
  · have J := sf_CD_ja D (Nat.le_of_lt hq) hb
    rw [(ha _ J.2.2.2.1).2.1]; exact D.2.2.2.1 q hq hk o s B hb
  · have J := sf_CD_ja D (Nat.le_of_lt hq) hb
    rw [(ha _ J.2.2.2.2.2.2.2.1).2.2.2]; exact D.2.2.2.2.1 q hq hk o s B hb
end
end
section
/-! the parser's invariant inside an expression, and its steps (pure) -/
def sf_ME (nv c : Nat) (K A cO cA cT : Nat → Int32) (s p n : Nat) (w : Bool) (os : List Int32) : Prop :=
  s < p ∧ p ≤ c ∧ sf_b (K s) ∧ (∀ j, s < j → j < p → sf_e (K j)) ∧ (∀ o, o ∈ os → o = -1 ∨ 1 ≤ sf_pc o) ∧
  n + sf_np os + (if sf_g (K s) then 0 else 1) = sf_ad K p ∧ sf_hd K s ≤ n ∧ (K s = 12 → cO (sf_ad K s) = 12 ∧ cT (sf_ad K s) = nI s) ∧ sf_CV nv cO cA (sf_hd K s) n ∧
  (∀ (f : sf_F) (nm vr : Int32 → Int32), ∃ vs, sf_rn f (sf_tk nm vr K A) (s + 1) (p - (s + 1)) (true, [], [-1]) = some (w, vs, os ++ [-1]) ∧ sf_cr f nm vr cO cA (sf_hd K s) (n - sf_hd K s) [] = vs ∧ vs.length = sf_np os + (if w = true then 0 else 1)) ∧
  sf_pr K p = sf_nq os ∧ sf_LS K p = K s ∧ (w = true → sf_b (sf_bf K p) ∨ sf_bf K p = 3 ∨ sf_bf K p = 4) ∧ (w = false → sf_bf K p = 1 ∨ sf_bf K p = 2 ∨ sf_bf K p = 5)
theorem sf_bf_s {K : Nat → Int32} {p : Nat} : sf_bf K (p + 1) = K p := by
  unfold sf_bf; rw [if_neg (by omega)]; rfl
theorem sf_ro_np {lev : Nat} (hl : 1 ≤ lev) : ∀ (os : List Int32), (sf_ro lev os).length ≤ os.length ∧ sf_np os = sf_np (sf_ro lev os) + (os.length - (sf_ro lev os).length) ∧ sf_nq (sf_ro lev os) = sf_nq os := by
  intro os
  induction os with
  | nil => exact ⟨Nat.le_refl _, rfl, rfl⟩
  | cons o os ih =>
    by_cases h : sf_pc o < lev
    · rw [sf_ro_c1 h]; exact ⟨Nat.le_refl _, by omega, rfl⟩
    · rw [sf_ro_c2 (by omega)]
      have ho : o ≠ -1 := fun z => by rw [z, sf_pcm1] at h; omega
      obtain ⟨a, b, d⟩ := ih
      refine ⟨by simp only [List.length_cons]; omega, ?_, ?_⟩
      · show (if o = -1 then 0 else 1) + sf_np os = _
        rw [if_neg ho]; simp only [List.length_cons]; omega
      · show _ = (if o = -1 then 1 else 0) + sf_nq os
        rw [if_neg ho]; omega
theorem sf_rv_len {f : sf_F} {lev : Nat} (hl : 1 ≤ lev) : ∀ (os vs : List Int32), vs.length = sf_np os + 1 → (sf_rv f lev os vs).length = sf_np (sf_ro lev os) + 1 := by
  intro os
  induction os with
  | nil => intro vs h; exact h
  | cons o os ih =>
    intro vs h
    by_cases hh : sf_pc o < lev
    · rw [sf_ro_c1 hh, sf_rv_c1 hh]; exact h
    · rw [sf_ro_c2 (by omega), sf_rv_c2 (by omega)]
      have ho : o ≠ -1 := fun z => by rw [z, sf_pcm1] at hh; omega
      have h' : vs.length = (if o = -1 then 0 else 1) + sf_np os + 1 := h
      rw [if_neg ho] at h'
      refine ih _ ?_
      show vs.tail.tail.length + 1 = _
      rw [List.length_tail, List.length_tail]; omega
theorem sf_ro_nil : ∀ (os : List Int32), (∀ o, o ∈ os → o = -1 ∨ 1 ≤ sf_pc o) → sf_nq os = 0 → sf_ro 1 os = [] := by
  intro os
  induction os with
  | nil => intro _ _; rfl
  | cons o os ih =>
    intro h h0
    have h0' : (if o = -1 then 1 else 0) + sf_nq os = 0 := h0
    have ho : o ≠ -1 := fun z => by rw [if_pos z] at h0'; omega
    rw [if_neg ho] at h0'
    have hp : 1 ≤ sf_pc o := by
      rcases h o (by simp) with z | z
      · exact absurd z ho
      · exact z
    rw [sf_ro_c2 hp]
    exact ih (fun x hx => h x (List.mem_cons_of_mem _ hx)) (by omega)
theorem sf_ro_par : ∀ (os : List Int32), (∀ o, o ∈ os → o = -1 ∨ 1 ≤ sf_pc o) → 0 < sf_nq os → ∃ os2, sf_ro 1 os = (-1) :: os2 ∧ (∀ o, o ∈ os2 → o ∈ os) := by
  intro os
  induction os with
  | nil => intro _ h; exact absurd h (by decide)
  | cons o os ih =>
    intro h h0
    by_cases ho : o = -1
    · refine ⟨os, ?_, fun x hx => List.mem_cons_of_mem _ hx⟩
      subst ho
      exact sf_ro_c1 (by rw [sf_pcm1]; omega)
    · have h0' : 0 < (if o = -1 then 1 else 0) + sf_nq os := h0
      rw [if_neg ho] at h0'
      have hp : 1 ≤ sf_pc o := by
        rcases h o (by simp) with z | z
        · exact absurd z ho
        · exact z
      obtain ⟨os2, a, b⟩ := ih (fun x hx => h x (List.mem_cons_of_mem _ hx)) (by omega)
      exact ⟨os2, by rw [sf_ro_c2 hp]; exact a, fun x hx => List.mem_cons_of_mem _ (b x hx)⟩
section
variable {nv c p s n n' : Nat} {K A cO cA cT cE cO' cA' cT' cE' : Nat → Int32} {w : Bool} {os : List Int32}
theorem sf_CV_agree {a b : Nat} (h : sf_CV nv cO cA a b) (ha : ∀ j, a ≤ j → j < b → cO' j = cO j ∧ cA' j = cA j) : sf_CV nv cO' cA' a b := by
  intro j x y
  rw [(ha j x y).1, (ha j x y).2]; exact h j x y
theorem sf_ME_beg (hp : p < c) (hb : sf_b (K p)) (h12 : K p = 12 → cO (sf_ad K p) = 12 ∧ cT (sf_ad K p) = nI p) (hpr : sf_pr K p = 0) : sf_ME nv c K A cO cA cT p (p + 1) (sf_hd K p) true [] := by
  refine ⟨by omega, by omega, hb, fun j h1 h2 => absurd h1 (by omega), fun o ho => (nomatch ho), ?_, Nat.le_refl _, h12, fun j h1 h2 => absurd h1 (by omega), fun f nm vr => ⟨[], ?_, ?_, rfl⟩, ?_, sf_LS_b hb, fun _ => Or.inl (by rw [sf_bf_s]; exact hb), fun z => (nomatch z)⟩
  · rw [sf_ad_s]
    unfold sf_hd
    show _ + 0 + _ = _
    rcases hb with h | h | h | h
    · rw [if_neg (by rw [h]; decide), if_neg (by rw [h]; decide), sf_cw_1 (by simp [h])]
    · rw [if_neg (by rw [h]; decide), if_neg (by rw [h]; decide), sf_cw_1 (by simp [h])]
    · rw [if_neg (by rw [h]; decide), if_pos (Or.inl h), sf_cw_0 (by simp [h])]
    · rw [if_pos h, if_pos (Or.inr h), sf_cw_1 (by simp [h])]
  · rw [show p + 1 - (p + 1) = 0 from by omega]; rfl
  · rw [Nat.sub_self]; rfl
  · rw [sf_pr_n (by rcases hb with h | h | h | h <;> rw [h] <;> decide) (by rcases hb with h | h | h | h <;> rw [h] <;> decide)]; exact hpr
/-- one more token of the expression -/
theorem sf_ME_step (H : sf_ME nv c K A cO cA cT s p n w os) (hp : p < c) (he : sf_e (K p)) {w' : Bool} {os' : List Int32} (hn : n ≤ n') (ha : ∀ j, j < n → cO' j = cO j ∧ cA' j = cA j ∧ cT' j = cT j)
    (hos : ∀ o, o ∈ os' → o = -1 ∨ 1 ≤ sf_pc o) (hc : n' + sf_np os' = n + sf_np os + sf_cw K p) (hcv : sf_CV nv cO' cA' n n') (hpr : sf_pr K (p + 1) = sf_nq os')
    (hw1 : w' = true → K p = 3 ∨ K p = 4) (hw0 : w' = false → K p = 1 ∨ K p = 2 ∨ K p = 5)
    (hrun : ∀ (f : sf_F) (nm vr : Int32 → Int32) (vs : List Int32), vs.length = sf_np os + (if w = true then 0 else 1) → ∃ vs', sf_st f (sf_tk nm vr K A p) (w, vs, os ++ [-1]) = some (w', vs', os' ++ [-1]) ∧ sf_cr f nm vr cO' cA' n (n' - n) vs = vs' ∧ vs'.length = sf_np os' + (if w' = true then 0 else 1)) :
    sf_ME nv c K A cO' cA' cT' s (p + 1) n' w' os' := by
  obtain ⟨a1, a2, a3, a4, a5, a6, a7, a8, a9, a10, a11, a12, a13, a14⟩ := H
  have hdl : sf_hd K s ≤ n := a7
  refine ⟨by omega, by omega, a3, fun j h1 h2 => ?_, hos, ?_, by omega, fun k => ?_, fun j h1 h2 => ?_, fun f nm vr => ?_, hpr, ?_, fun z => ?_, fun z => ?_⟩
  · rcases Nat.lt_or_ge j p with q | q
    · exact a4 j h1 q
    · have : j = p := by omega
      subst this; exact he
  · rw [sf_ad_s]; omega
  · have : sf_hd K s = sf_ad K s + 1 := by unfold sf_hd; rw [if_pos k]
    have q := ha (sf_ad K s) (by omega)
    rw [q.1, q.2.2]; exact a8 k
  · rcases Nat.lt_or_ge j n with q | q
    · rw [(ha j q).1, (ha j q).2.1]; exact a9 j h1 q
    · exact hcv j q h2
  · obtain ⟨vs, r1, r2, r3⟩ := a10 f nm vr
    obtain ⟨vs', t1, t2, t3⟩ := hrun f nm vr vs r3
    refine ⟨vs', ?_, ?_, t3⟩
    · rw [show p + 1 - (s + 1) = (p - (s + 1)) + 1 from by omega, sf_rn_snoc, r1, show s + 1 + (p - (s + 1)) = p from by omega]
      exact t1
    · have q := sf_cr_congr (f := f) (nm := nm) (vr := vr) (cO' := cO') (cA' := cA') (cO := cO) (cA := cA) (n - sf_hd K s) (sf_hd K s) [] (fun j h1 h2 => ⟨(ha j (by omega)).1, (ha j (by omega)).2.1⟩)
      rw [show n' - sf_hd K s = (n - sf_hd K s) + (n' - n) from by omega, sf_cr_add, q, r2, show sf_hd K s + (n - sf_hd K s) = n from by omega]
      exact t2
  · rw [sf_LS_n (sf_ge he).2.2.2.1]; exact a12
  · rw [sf_bf_s]; exact Or.inr (hw1 z)
  · rw [sf_bf_s]; exact hw0 z
theorem sf_ne1 {os : List Int32} : os ++ [-1] ≠ ([] : List Int32) := by simp
theorem sf_ME_lp (H : sf_ME nv c K A cO cA cT s p n true os) (hp : p < c) (h4 : K p = 4) : sf_ME nv c K A cO cA cT s (p + 1) n true ((-1) :: os) := by
  refine sf_ME_step H hp (by rw [h4]; decide) (Nat.le_refl _) (fun j _ => ⟨rfl, rfl, rfl⟩) (fun o ho => ?_) ?_ (fun j h1 h2 => absurd h1 (by omega)) ?_ (fun _ => Or.inr h4) (fun z => nomatch z) (fun f nm vr vs hv => ⟨vs, ?_, ?_, ?_⟩)
  · rcases List.mem_cons.mp ho with z | z
    · exact Or.inl z
    · exact H.2.2.2.2.1 o z
  · rw [sf_cw_0 (Or.inl h4)]
    show n + ((if (-1 : Int32) = -1 then 0 else 1) + sf_np os) = _
    rw [if_pos rfl]; omega
  · rw [sf_pr_4 h4, H.2.2.2.2.2.2.2.2.2.2.1]
    show _ = (if (-1 : Int32) = -1 then 1 else 0) + sf_nq os
    rw [if_pos rfl]; omega
  · have : sf_tk nm vr K A p = (4, (sf_tk nm vr K A p).2) := by
      unfold sf_tk; rw [if_neg (by rw [h4]; decide), h4]
    rw [this, sf_st_lp sf_ne1]; rfl
  · rw [Nat.sub_self]; rfl
  · rw [hv]
    show _ = (if (-1 : Int32) = -1 then 0 else 1) + sf_np os + _
    rw [if_pos (show (-1 : Int32) = -1 from rfl)]; omega
theorem sf_ME_num (H : sf_ME nv c K A cO cA cT s p n true os) (hp : p < c) (hk : K p = 1 ∨ K p = 2) (hv : K p = 2 → vp_in (A p) nv) (ha : ∀ j, j < n → cO' j = cO j ∧ cA' j = cA j ∧ cT' j = cT j) (h1 : cO' n = K p) (h2 : cA' n = A p) : sf_ME nv c K A cO' cA' cT' s (p + 1) (n + 1) false os := by
  have hkn : K p ≠ 4 ∧ K p ≠ 5 := by rcases hk with k | k <;> rw [k] <;> decide
  refine sf_ME_step H hp (by rcases hk with k | k <;> rw [k] <;> decide) (by omega) ha H.2.2.2.2.1 ?_ (fun j x y => ?_) ?_ (fun z => nomatch z) (fun _ => ?_) (fun f nm vr vs hvs => ⟨(sf_tk nm vr K A p).2 :: vs, ?_, ?_, ?_⟩)
  · rw [sf_cw_1 (by rcases hk with k | k <;> simp [k])]; omega
  · have : j = n := by omega
    subst this
    rw [h1, h2]
    rcases hk with k | k
    · exact Or.inl k
    · exact Or.inr (Or.inl ⟨k, hv k⟩)
  · rw [sf_pr_n hkn.1 hkn.2]; exact H.2.2.2.2.2.2.2.2.2.2.1
  · rcases hk with k | k
    · exact Or.inl k
    · exact Or.inr (Or.inl k)
  · have : sf_tk nm vr K A p = (1, (sf_tk nm vr K A p).2) := by
      unfold sf_tk
      rcases hk with k | k
      · rw [if_neg (by rw [k]; decide), k]
      · rw [if_pos k]
    rw [this, sf_st_num sf_ne1]
  · rw [show n + 1 - n = 1 from by omega]
    show sf_ci f nm vr (cO' n) (cA' n) vs = _
    rw [h1, h2]
    unfold sf_ci
    show _ = (if K p = 1 then nm (A p) else if K p = 2 then vr (A p) else A p) :: vs
    rcases hk with k | k
    · rw [if_pos k, if_pos k]
    · rw [if_neg (by rw [k]; decide), if_pos k, if_neg (by rw [k]; decide), if_pos k]
  · show vs.length + 1 = _
    rw [hvs]; rfl
theorem sf_ME_op (H : sf_ME nv c K A cO cA cT s p n false os) (hp : p < c) (hk : K p = 3) (hv : 1 ≤ sf_pc (A p)) (hn : n' = n + (os.length - (sf_ro (sf_pc (A p)) os).length)) (ha : ∀ j, j < n → cO' j = cO j ∧ cA' j = cA j ∧ cT' j = cT j) (h3 : ∀ j, n ≤ j → j < n' → cO' j = 3)
    (hr : ∀ (f : sf_F) (nm vr : Int32 → Int32) (st : List Int32), sf_cr f nm vr cO' cA' n (n' - n) st = sf_rv f (sf_pc (A p)) os st) : sf_ME nv c K A cO' cA' cT' s (p + 1) n' true (A p :: sf_ro (sf_pc (A p)) os) := by
  have N := sf_ro_np hv os
  have hm : A p ≠ -1 := fun z => by rw [z, sf_pcm1] at hv; omega
  have en : sf_np (A p :: sf_ro (sf_pc (A p)) os) = 1 + sf_np (sf_ro (sf_pc (A p)) os) := by
    show (if A p = -1 then 0 else 1) + _ = _
    rw [if_neg hm]
  refine sf_ME_step H hp (by rw [hk]; decide) (by omega) ha (fun o ho => ?_) ?_ (fun j x y => Or.inr (Or.inr (h3 j x y))) ?_ (fun _ => Or.inl hk) (fun z => nomatch z) (fun f nm vr vs hvs => ⟨sf_rv f (sf_pc (A p)) os vs, ?_, hr f nm vr vs, ?_⟩)
  · rcases List.mem_cons.mp ho with z | z
    · rw [z]; exact Or.inr hv
    · exact H.2.2.2.2.1 o (sf_ro_mem _ z)
  · rw [sf_cw_1 (by simp [hk]), en]; omega
  · rw [sf_pr_n (by rw [hk]; decide) (by rw [hk]; decide), H.2.2.2.2.2.2.2.2.2.2.1]
    show _ = (if A p = -1 then 1 else 0) + sf_nq (sf_ro (sf_pc (A p)) os)
    rw [if_neg hm, N.2.2]; omega
  · have : sf_tk nm vr K A p = (3, A p) := by
      unfold sf_tk; rw [if_neg (by rw [hk]; decide), if_neg (by rw [hk]; decide), if_neg (by rw [hk]; decide), hk]
    rw [this, sf_st_op sf_ne1, sf_rv_app hv, sf_ro_app hv]; rfl
  · rw [en, sf_rv_len hv os vs hvs, if_pos rfl]; omega
theorem sf_ME_rp {os2 : List Int32} (H : sf_ME nv c K A cO cA cT s p n false os) (hp : p < c) (hk : K p = 5) (h2 : sf_ro 1 os = (-1) :: os2) (hn : n' = n + (os.length - (sf_ro 1 os).length)) (ha : ∀ j, j < n → cO' j = cO j ∧ cA' j = cA j ∧ cT' j = cT j) (h3 : ∀ j, n ≤ j → j < n' → cO' j = 3)
    (hr : ∀ (f : sf_F) (nm vr : Int32 → Int32) (st : List Int32), sf_cr f nm vr cO' cA' n (n' - n) st = sf_rv f 1 os st) : sf_ME nv c K A cO' cA' cT' s (p + 1) n' false os2 := by
  have N := sf_ro_np (lev := 1) (by omega) os
  have en : sf_np (sf_ro 1 os) = sf_np os2 := by
    rw [h2]
    show (if (-1 : Int32) = -1 then 0 else 1) + _ = _
    rw [if_pos rfl]; omega
  have eq : sf_nq (sf_ro 1 os) = 1 + sf_nq os2 := by
    rw [h2]
    show (if (-1 : Int32) = -1 then 1 else 0) + _ = _
    rw [if_pos rfl]
  refine sf_ME_step H hp (by rw [hk]; decide) (by omega) ha (fun o ho => ?_) ?_ (fun j x y => Or.inr (Or.inr (h3 j x y))) ?_ (fun z => nomatch z) (fun _ => Or.inr (Or.inr hk)) (fun f nm vr vs hvs => ⟨sf_rv f 1 os vs, ?_, hr f nm vr vs, ?_⟩)
  · exact H.2.2.2.2.1 o (sf_ro_mem (lev := 1) _ (by rw [h2]; exact List.mem_cons_of_mem _ ho))
  · rw [sf_cw_0 (by simp [hk]), ← en]; omega
  · rw [sf_pr_5 hk, H.2.2.2.2.2.2.2.2.2.2.1, ← N.2.2, eq]; omega
  · have : sf_tk nm vr K A p = (5, (sf_tk nm vr K A p).2) := by
      unfold sf_tk; rw [if_neg (by rw [hk]; decide), hk]
    rw [this, sf_st_rp sf_ne1, sf_rv_app (by omega), sf_ro_app (by omega), h2]; rfl
  · rw [← en, sf_rv_len (by omega) os vs hvs]; rfl
/-- the expression's code is whole -/
theorem sf_ME_EX (H : sf_ME nv c K A cO cA cT s p n false os) (h0 : sf_nq os = 0) (hn : n' = n + os.length) (ha : ∀ j, j < n → cO' j = cO j ∧ cA' j = cA j) (h3 : ∀ j, n ≤ j → j < n' → cO' j = 3)
    (hr : ∀ (f : sf_F) (nm vr : Int32 → Int32) (st : List Int32), sf_cr f nm vr cO' cA' n (n' - n) st = sf_rv f 1 os st) : sf_EX nv K A cO' cA' s p (sf_hd K s) n' ∧ n' + (if sf_g (K s) then 0 else 1) = sf_ad K p := by
  obtain ⟨a1, a2, a3, a4, a5, a6, a7, a8, a9, a10, a11, a12, a13, a14⟩ := H
  have N := sf_npq os
  have z : sf_ro 1 os = [] := sf_ro_nil os a5 h0
  refine ⟨⟨by omega, fun j h1 h2 => ?_, fun f nm vr => ?_⟩, by omega⟩
  · rcases Nat.lt_or_ge j n with q | q
    · rw [(ha j q).1, (ha j q).2]; exact a9 j h1 q
    · exact Or.inr (Or.inr (h3 j q h2))
  · obtain ⟨vs, r1, r2, r3⟩ := a10 f nm vr
    have L := sf_rv_len (f := f) (lev := 1) (by omega) os vs r3
    rw [z] at L
    obtain ⟨v, hv⟩ : ∃ v, sf_rv f 1 os vs = [v] := by
      have L' : (sf_rv f 1 os vs).length = 1 := L
      match h : sf_rv f 1 os vs, L' with
      | [v], _ => exact ⟨v, rfl⟩
    refine ⟨v, ?_, ?_⟩
    · rw [r1]
      show sf_st f (5, 0) (false, vs, os ++ [-1]) = _
      rw [sf_st_rp sf_ne1, sf_rv_app (by omega), sf_ro_app (by omega), z, hv]; rfl
    · have q := sf_cr_congr (f := f) (nm := nm) (vr := vr) (cO' := cO') (cA' := cA') (cO := cO) (cA := cA) (n - sf_hd K s) (sf_hd K s) [] (fun j h1 h2 => ha j (by omega))
      rw [show n' - sf_hd K s = (n - sf_hd K s) + (n' - n) from by omega, sf_cr_add, q, r2, show sf_hd K s + (n - sf_hd K s) = n from by omega, hr, hv]
end
end
section
/-! the code of whole statements (pure) -/
section
variable {nv c p s : Nat} {K A cO cA cT cE cO' cA' cT' cE' : Nat → Int32}
theorem sf_e9_six {k : Int32} (h : sf_e k ∨ k = 9) : ¬ sf_six k ∧ ¬ sf_b k ∧ k ≠ 10 ∧ k ≠ 11 := by
  rcases h with (h | h | h | h | h) | h <;> subst h <;> decide
theorem sf_b1011 {k : Int32} (h : sf_b k) : k ≠ 10 ∧ k ≠ 11 := by
  rcases h with h | h | h | h <;> subst h <;> decide
theorem sf_CD_ext (D : sf_CD nv c K A cO cA cT cE s) (hb : sf_b (K s)) (hs : s < sf_nb K c s) (hin : ∀ j, s < j → j < sf_nb K c s → sf_e (K j) ∨ K j = 9) (B : sf_CB nv c K A cO cA cT (sf_nb K c s) s) : sf_CD nv c K A cO cA cT cE (sf_nb K c s) := by
  have tri : ∀ i (P : Prop), i < sf_nb K c s → (i < s → P) → (i = s → P) → ((sf_e (K i) ∨ K i = 9) → P) → P := fun i P h a b d => by
    rcases Nat.lt_trichotomy i s with z | z | z
    · exact a z
    · exact b z
    · exact d (hin i z h)
  have n1 := sf_b1011 hb
  refine ⟨fun i hi h => tri i _ hi (fun z => ?_) (fun z => ?_) (fun z => absurd h (sf_e9_six z).2.1), fun i hi h => tri i _ hi (fun z => D.2.1 i z h) (fun z => ?_) (fun z => absurd h (sf_e9_six z).2.2.1), fun i hi h => tri i _ hi (fun z => D.2.2.1 i z h) (fun z => ?_) (fun z => absurd h (sf_e9_six z).2.2.2),
    fun i hi h => tri i _ hi (fun z => D.2.2.2.1 i z h) (fun z => ?_) (fun z => ?_), fun i hi h => tri i _ hi (fun z => D.2.2.2.2.1 i z h) (fun z => ?_) (fun z => absurd h (sf_e9_six z).2.2.2), fun i hi h => tri i _ hi (fun z => ?_) (fun z => ?_) (fun z => absurd h (sf_e9_six z).1), ?_⟩
  · obtain ⟨b1, b2, b3, b4, b5, b6, b7, b8⟩ := D.1 i z h
    exact ⟨b1, by omega, b3, b4, b5, b6, b7, b8⟩
  · subst z; exact B
  · subst z; exact absurd h n1.1
  · subst z; exact absurd h n1.2
  · subst z
    rcases h with h | h
    · exact absurd h n1.1
    · exact absurd h n1.2
  · rcases h with h | h
    · exact absurd h (sf_e9_six z).2.2.1
    · exact absurd h (sf_e9_six z).2.2.2
  · subst z; exact absurd h n1.2
  · obtain ⟨a, b⟩ := D.2.2.2.2.2.1 i z h
    refine ⟨by omega, Or.inr ?_⟩
    rcases b with b | b
    · rw [b]; exact sf_b_six hb
    · exact b
  · subst z; exact ⟨Nat.le_refl _, Or.inl rfl⟩
  · rcases D.2.2.2.2.2.2 with z | z
    · subst z; exact Or.inr (sf_b_six hb)
    · exact Or.inr z
theorem sf_nb_g (h : sf_g (K s)) : sf_nb K c s = sf_xe K c s + 1 := if_pos h
theorem sf_nb_b (h : sf_b (K s)) (h' : ¬ sf_g (K s)) : sf_nb K c s = sf_xe K c s := by
  unfold sf_nb; rw [if_neg h', if_pos h]
theorem sf_nb_n (h : ¬ sf_b (K s)) : sf_nb K c s = s + 1 := by
  unfold sf_nb; rw [if_neg (fun z => h (sf_g_b z)), if_neg h]
theorem sf_CD_simple {n : Nat} (D : sf_CD nv c K A cO cA cT cE s) (hs : s < p) (hp : p ≤ c) (hb : sf_b (K s)) (hg : ¬ sf_g (K s)) (he : ∀ j, s < j → j < p → sf_e (K j)) (hpe : p = c ∨ ¬ sf_e (K p))
    (X : sf_EX nv K A cO cA s p (sf_hd K s) n) (hn : n + 1 = sf_ad K p) (h1 : cO n = K s) (h2 : cA n = A s) (h3 : cT n = nI s) : sf_CD nv c K A cO cA cT cE p := by
  have xe : sf_xe K c s = p := sf_xe_eq hs hp he hpe
  have nb : sf_nb K c s = p := by rw [sf_nb_b hb hg]; exact xe
  have ti : sf_ti K c s = n := by unfold sf_ti; rw [nb]; omega
  have R := sf_CD_ext D hb (by omega) (fun j a b => Or.inl (he j a (by omega))) ⟨fun z => absurd (Or.inr z) hg, Nat.le_refl _, fun z => absurd z hg, by rw [xe, ti]; exact X, by rw [ti, if_neg hg]; exact h1, by rw [ti]; exact h3, fun _ => by rw [ti]; exact h2, by rw [ti, nb]; exact hn⟩
  rw [nb] at R; exact R
theorem sf_CD_do {n : Nat} (D : sf_CD nv c K A cO cA cT cE s) (hs : s < p) (hp : p < c) (hg : sf_g (K s)) (he : ∀ j, s < j → j < p → sf_e (K j)) (h9 : K p = 9) (h12 : K s = 12 → cO (sf_ad K s) = 12 ∧ cT (sf_ad K s) = nI s)
    (X : sf_EX nv K A cO cA s p (sf_hd K s) n) (hn : n = sf_ad K p) (h1 : cO n = 9) (h3 : cT n = nI s) : sf_CD nv c K A cO cA cT cE (p + 1) ∧ sf_ti K c s = n := by
  have xe : sf_xe K c s = p := sf_xe_eq hs (by omega) he (Or.inr (by rw [h9]; decide))
  have nb : sf_nb K c s = p + 1 := by rw [sf_nb_g hg, xe]
  have ti : sf_ti K c s = n := by unfold sf_ti; rw [nb, sf_ad_s, sf_cw_1 (by simp [h9])]; omega
  have R := sf_CD_ext D (sf_g_b hg) (by omega) (fun j a b => ?_) ⟨h12, Nat.le_refl _, fun _ => by rw [xe]; exact h9, by rw [xe, ti]; exact X, by rw [ti, if_pos hg]; exact h1, by rw [ti]; exact h3, fun z => absurd hg z, by rw [ti, nb, sf_ad_s, sf_cw_1 (by simp [h9])]; omega⟩
  · rw [nb] at R; exact ⟨R, ti⟩
  · rw [nb] at b
    rcases Nat.lt_or_ge j p with z | z
    · exact Or.inl (he j a z)
    · have : j = p := by omega
      subst this; exact Or.inr h9
theorem sf_ja_inj {q o o' s' : Nat} {B B' : List (Nat × Nat)} (D : sf_CD nv c K A cO cA cT cE p) (hq : q ≤ p) (hp : p ≤ 96) (hb : sf_BK K q = (o', s') :: B') (hb' : sf_BK K p = (o, s) :: B) (e : sf_ja K c s' = sf_ja K c s) : s' = s := by
  obtain ⟨a1, a2, a3, a4, a5, a6, a7, _⟩ := sf_CD_ja D hq hb
  obtain ⟨b1, b2, b3, b4, b5, b6, b7, _⟩ := sf_CD_ja D (Nat.le_refl _) hb'
  by_cases k : K s' = 10
  · by_cases k' : K s = 10
    · unfold sf_ja at e
      rw [if_pos k, if_pos k'] at e
      rcases Nat.lt_trichotomy s' s with z | z | z
      · have := sf_ad_lt (K := K) z (sf_cw_1 (by simp [k])); omega
      · exact z
      · have := sf_ad_lt (K := K) z (sf_cw_1 (by simp [k'])); omega
    · have x := a6 k
      have y := (b7 k').1
      rw [e, y] at x; exact absurd x (by decide)
  · by_cases k' : K s = 10
    · have x := (a7 k).1
      have y := b6 k'
      rw [e, y] at x; exact absurd x (by decide)
    · have x := (a7 k).2
      have y := (b7 k').2
      rw [e, y] at x
      exact (sf_inj x (by omega) (by omega)).symm
theorem sf_CD_patch {o : Nat} {B : List (Nat × Nat)} (D : sf_CD nv c K A cO cA cT cE p) (hp : p < 96) (hk : K p = 10 ∨ K p = 11) (hb : sf_BK K p = (o, s) :: B)
    (hO : ∀ j, j < sf_ad K p → cO' j = cO j) (hT : ∀ j, j < sf_ad K p → cT' j = cT j) (hA : ∀ j, j < sf_ad K p → j ≠ sf_ja K c s → cA' j = cA j) (hAx : cA' (sf_ja K c s) = nI (sf_ad K (p + 1)))
    (hE : ∀ j, j < sf_ad K p → (K p = 11 → j ≠ sf_ti K c o) → cE' j = cE j) (hEx : K p = 11 → cE' (sf_ti K c o) = nI (sf_ad K (p + 1)))
    (h10 : K p = 10 → cO' (sf_ad K p) = 10) (h11 : K p = 11 → K o = 12 → cO' (sf_ad K p) = 11 ∧ cA' (sf_ad K p) = nI (sf_ad K o)) : sf_CD nv c K A cO' cA' cT' cE' (p + 1) := by
  have J := sf_CD_ja D (Nat.le_refl _) hb
  have jO := J.2.2.2.2.1
  have ne : ∀ j, cO j ≠ 9 → cO j ≠ 10 → j ≠ sf_ja K c s := fun j x y z => by
    rw [z] at x y
    rcases jO with q | q
    · exact x q
    · exact y q
  have six : sf_six (K p) := by rcases hk with z | z <;> rw [z] <;> decide
  have nb : ¬ sf_b (K p) := by rcases hk with z | z <;> rw [z] <;> decide
  have two : ∀ i (P : Prop), i < p + 1 → (i < p → P) → (i = p → P) → P := fun i P h a b => by
    rcases Nat.lt_or_ge i p with z | z
    · exact a z
    · exact b (by omega)
  refine ⟨fun i hi h => two i _ hi (fun z => ?_) (fun z => by subst z; exact absurd h nb), fun i hi h => two i _ hi (fun z => ?_) (fun z => by subst z; exact h10 h), fun i hi h o' s' B' hb' ho => two i _ hi (fun z => ?_) (fun z => ?_), fun q hq h o' s' B' hb' => two q _ hq (fun z => ?_) (fun z => ?_), fun q hq h o' s' B' hb' => two q _ hq (fun z => ?_) (fun z => ?_),
    fun i hi h => two i _ hi (fun z => ?_) (fun z => ?_), ?_⟩
  · obtain ⟨b1, b2, b3, b4, b5, b6, b7, b8⟩ := D.1 i z h
    have m := sf_ad_mono (K := K) b2
    have hh : sf_hd K i ≤ sf_ti K c i := b4.1
    refine ⟨fun k => ?_, by omega, b3, sf_EX_agree b4 (fun j x y => ⟨hO j (by omega), hA j (by omega) (ne j ?_ ?_)⟩), by rw [hO _ (by omega)]; exact b5, by rw [hT _ (by omega)]; exact b6, fun g => ?_, b8⟩
    · have : sf_hd K i = sf_ad K i + 1 := by unfold sf_hd; rw [if_pos k]
      rw [hO _ (by omega), hT _ (by omega)]; exact b1 k
    · rcases b4.2.1 j x y with q | q | q
      · rw [q]; decide
      · rw [q.1]; decide
      · rw [q]; decide
    · rcases b4.2.1 j x y with q | q | q
      · rw [q]; decide
      · rw [q.1]; decide
      · rw [q]; decide
    · rw [if_neg g] at b5
      rw [hA _ (by omega) (ne _ ?_ ?_)]
      · exact b7 g
      · rw [b5]; rcases h with q | q | q | q <;> rw [q] <;> decide
      · rw [b5]; rcases h with q | q | q | q <;> rw [q] <;> decide
  · rw [hO _ (sf_ad_lt z (sf_cw_1 (by simp [h])))]; exact D.2.1 i z h
  · have l : sf_ad K i < sf_ad K p := sf_ad_lt z (by rw [sf_cw_E h hb', if_pos ho])
    have d := D.2.2.1 i z h o' s' B' hb' ho
    rw [hO _ l, hA _ l (ne _ (by rw [d.1]; decide) (by rw [d.1]; decide))]; exact d
  · subst z
    rw [hb] at hb'
    have := (List.cons.inj hb').1
    have e1 := congrArg Prod.fst this
    dsimp only at e1
    subst e1
    exact h11 h ho
  · have J' := sf_CD_ja D (Nat.le_of_lt z) hb'
    rw [hA _ J'.2.2.2.1 (fun e => ?_)]
    · exact D.2.2.2.1 q z h o' s' B' hb'
    · have es := sf_ja_inj D (Nat.le_of_lt z) (by omega) hb' hb e
      subst es
      have := sf_PE_uniq (sf_PE_of h hb') (sf_PE_of hk hb)
      omega
  · subst z
    rw [hb] at hb'
    have := (List.cons.inj hb').1
    have e1 := congrArg Prod.snd this
    dsimp only at e1
    subst e1
    exact hAx
  · have J' := sf_CD_ja D (Nat.le_of_lt z) hb'
    obtain ⟨_, _, _, _, _, _, _, t1, t2, t3⟩ := J'
    obtain ⟨_, _, _, _, _, _, _, u1, u2, u3⟩ := J
    rw [hE _ t1 (fun k e => ?_)]
    · exact D.2.2.2.2.1 q z h o' s' B' hb'
    · rw [e, u3] at t3
      have E1 := sf_CD_ja D (Nat.le_of_lt z) hb'
      have E2 := sf_CD_ja D (Nat.le_refl _) hb
      have := sf_inj t3 (by omega) (by omega)
      subst this
      exact sf_END_uniq z h hb' hb
  · subst z
    rw [hb] at hb'
    have := (List.cons.inj hb').1
    have e1 := congrArg Prod.fst this
    dsimp only at e1
    subst e1
    exact hEx h
  · obtain ⟨a, b⟩ := D.2.2.2.2.2.1 i z h
    refine ⟨by omega, Or.inr ?_⟩
    rcases b with b | b
    · rw [b]; exact six
    · exact b
  · subst z
    rw [sf_nb_n nb]; exact ⟨Nat.le_refl _, Or.inl rfl⟩
  · rcases D.2.2.2.2.2.2 with z | z
    · subst z; exact Or.inr six
    · exact Or.inr z
end
/-! open blocks in the arrays -/
def sf_SB (K : Nat → Int32) (c : Nat) (bK bB bL : Nat → Int32) : List (Nat × Nat) → Prop
  | [] => True
  | x :: B => bK B.length = (if x.2 = x.1 then K x.1 else 10) ∧ bB B.length = nI (sf_ti K c x.1) ∧ bL B.length = nI (sf_ad K x.2) ∧ (x.2 = x.1 ∨ K x.1 = 8) ∧ sf_SB K c bK bB bL B
theorem sf_SB_up {K bK bB bL bK' bB' bL' : Nat → Int32} {c : Nat} : ∀ (B : List (Nat × Nat)), (∀ j, j < B.length → bK' j = bK j ∧ bB' j = bB j ∧ bL' j = bL j) → sf_SB K c bK bB bL B → sf_SB K c bK' bB' bL' B := by
  intro B
  induction B with
  | nil => intro _ _; trivial
  | cons x B ih =>
    intro h S
    obtain ⟨a, b, d, e, f⟩ := S
    have q := h B.length (by simp)
    exact ⟨by rw [q.1]; exact a, by rw [q.2.1]; exact b, by rw [q.2.2]; exact d, e, ih (fun j hj => h j (by simp only [List.length_cons]; omega)) f⟩
end
section
/-! the component's parser: small methods -/
theorem sf_pcx : ∀ j, j < 7 → ∀ (P : Int32 → Prop), P (nI (sf_pc (nI j))) → (nI j = 0 → P 4) ∧ (¬ nI j = 0 → (nI j = 1 → P 4) ∧ (¬ nI j = 1 → (nI j = 2 → P 5) ∧ (¬ nI j = 2 → (nI j = 3 → P 3) ∧ (¬ nI j = 3 → (nI j = 4 → P 3) ∧ (¬ nI j = 4 → (nI j = 5 → P 2) ∧ (¬ nI j = 5 → (nI j = 6 → P 1) ∧ (¬ nI j = 6 → True))))))) := by
  intro j hj P h
  have hj' : j = 0 ∨ j = 1 ∨ j = 2 ∨ j = 3 ∨ j = 4 ∨ j = 5 ∨ j = 6 := by omega
  rcases hj' with z | z | z | z | z | z | z
  · subst z
    exact br_t (by decide) h
  · subst z
    exact br_f (by decide) (br_t (by decide) h)
  · subst z
    exact br_f (by decide) (br_f (by decide) (br_t (by decide) h))
  · subst z
    exact br_f (by decide) (br_f (by decide) (br_f (by decide) (br_t (by decide) h)))
  · subst z
    exact br_f (by decide) (br_f (by decide) (br_f (by decide) (br_f (by decide) (br_t (by decide) h))))
  · subst z
    exact br_f (by decide) (br_f (by decide) (br_f (by decide) (br_f (by decide) (br_f (by decide) (br_t (by decide) h)))))
  · subst z
    exact br_f (by decide) (br_f (by decide) (br_f (by decide) (br_f (by decide) (br_f (by decide) (br_f (by decide) (br_t (by decide) h))))))
theorem sf_pc_out {o : Int32} (h : ∀ j, j < 7 → o ≠ nI j) : sf_pc o = 0 := by
  unfold sf_pc
  rw [if_neg (show ¬ o = 2 from h 2 (by omega)), if_neg (show ¬ o = 0 from h 0 (by omega)), if_neg (show ¬ o = 1 from h 1 (by omega)), if_neg (show ¬ o = 3 from h 3 (by omega)), if_neg (show ¬ o = 4 from h 4 (by omega)), if_neg (show ¬ o = 5 from h 5 (by omega)), if_neg (show ¬ o = 6 from h 6 (by omega))]
section
variable {xv xt xo xc xs xf xr xp xl xn xq xy xd xe xw xk xj xh xz : Int32} {K A L aI aS M oL oC oV kS kM kC kV cO cA cT cE oP bK bB bL sT rE rO fL : Nat → Int32}
theorem sf_x_emit {post : SX → Prop} {n : Nat} {op ar tk : Int32} (hn : n < 128) (h : post (xv, xt, xo, xc, xs, xf, xr, xp, xl, (nI (n + 1)), xq, xy, xd, xe, xw, xk, xj, xh, xz, K, A, L, aI, aS, M, oL, oC, oV, kS, kM, kC, kV, (upd cO n op), (upd cA n ar), (upd cT n tk), (upd cE n 0), oP, bK, bB, bL, sT, rE, rO, fL)) : wpX_emit post (xv, xt, xo, xc, xs, xf, xr, xp, xl, (nI n), xq, xy, xd, xe, xw, xk, xj, xh, xz, K, A, L, aI, aS, M, oL, oC, oV, kS, kM, kC, kV, cO, cA, cT, cE, oP, bK, bB, bL, sT, rE, rO, fL) op ar tk := by
  have cl : (nI n).toNatClampNeg = n := nI_clamp (by omega)
  have hv : vp_in (nI n) 128 := vp_in_nI hn (by omega)
  exact br_f (nI_ge (b := 128) hn (by omega)) (And.intro hv (nm_r (e' := upd cO n op) (by rw [cl]) (And.intro hv (nm_r (e' := upd cA n ar) (by rw [cl]) (And.intro hv (nm_r (e' := upd cT n tk) (by rw [cl]) (And.intro hv (nm_r (e' := upd cE n 0) (by rw [cl]) (nm_r (nI_1 n) h)))))))))
theorem sf_x_pushOp {post : SX → Prop} {q : Nat} {op : Int32} (hq : q < 128) (h : post (xv, xt, xo, xc, xs, xf, xr, xp, xl, xn, (nI (q + 1)), xy, xd, xe, xw, xk, xj, xh, xz, K, A, L, aI, aS, M, oL, oC, oV, kS, kM, kC, kV, cO, cA, cT, cE, (upd oP q op), bK, bB, bL, sT, rE, rO, fL)) : wpX_pushOp post (xv, xt, xo, xc, xs, xf, xr, xp, xl, xn, (nI q), xy, xd, xe, xw, xk, xj, xh, xz, K, A, L, aI, aS, M, oL, oC, oV, kS, kM, kC, kV, cO, cA, cT, cE, oP, bK, bB, bL, sT, rE, rO, fL) op := by
  have cl : (nI q).toNatClampNeg = q := nI_clamp (by omega)
  exact br_f (nI_ge (b := 128) hq (by omega)) (And.intro (vp_in_nI hq (by omega)) (nm_r (e' := upd oP q op) (by rw [cl]) (nm_r (nI_1 q) h)))
theorem sf_x_prec {post : Int32 → Prop} {o : Int32} (h : post (nI (sf_pc o))) : wpX_precedence post (xv, xt, xo, xc, xs, xf, xr, xp, xl, xn, xq, xy, xd, xe, xw, xk, xj, xh, xz, K, A, L, aI, aS, M, oL, oC, oV, kS, kM, kC, kV, cO, cA, cT, cE, oP, bK, bB, bL, sT, rE, rO, fL) o := by
  by_cases h0 : o < 0
  · refine br_t h0 ?_
    rw [sf_pc_out (fun j hj e => by rw [e] at h0; exact nI_pos (by omega) h0)] at h
    exact h
  · obtain ⟨j, hj, rfl⟩ := nI_of h0
    refine br_f h0 ?_
    rcases Nat.lt_or_ge j 7 with z | z
    · exact br_f (nI_nlt (b := j) (a := 6) (by omega) (by omega)) (sf_pcx j z post h)
    · rw [sf_pc_out (fun i hi e => by have := sf_inj e hj (by omega); omega)] at h
      exact br_t (nI_lt (a := 6) (by omega) hj) h
theorem sf_x_red5 {post : SX → Prop} {lev : Nat} : ∀ (os : List Int32) (n m : Nat) (cO cA cT cE : Nat → Int32), os.length < m → sf_SK oP os → n + os.length ≤ 127 →
    (∀ n' cO' cA' cT' cE', n' = n + (os.length - (sf_ro lev os).length) → (∀ j, j < n → cO' j = cO j ∧ cA' j = cA j ∧ cT' j = cT j ∧ cE' j = cE j) → (∀ j, n ≤ j → j < n' → cO' j = 3) → (∀ (f : sf_F) (nm vr : Int32 → Int32) (st : List Int32), sf_cr f nm vr cO' cA' n (n' - n) st = sf_rv f lev os st) →
      post (xv, xt, xo, xc, xs, xf, xr, xp, xl, (nI n'), (nI (sf_ro lev os).length), xy, xd, xe, xw, xk, xj, xh, xz, K, A, L, aI, aS, M, oL, oC, oV, kS, kM, kC, kV, cO', cA', cT', cE', oP, bK, bB, bL, sT, rE, rO, fL)) → lev ≤ 5 →
    wX_reduce_5 post (nI lev) m (nI os.length) xv xt xo xc xs xf xr xp xl (nI n) (nI os.length) xy xd xe xw xk xj xh xz K A L aI aS M oL oC oV kS kM kC kV cO cA cT cE oP bK bB bL sT rE rO fL := by
  intro os
  induction os with
  | nil =>
    intro n m cO cA cT cE hm hs hn h hl
    obtain ⟨m, rfl⟩ : ∃ k, m = k + 1 := ⟨m - 1, by have : ([] : List Int32).length = 0 := rfl; omega⟩
    refine br_t (by decide) (h n cO cA cT cE rfl (fun j _ => ⟨rfl, rfl, rfl, rfl⟩) (fun j a b => absurd a (by omega)) (fun f nm vr st => ?_))
    rw [Nat.sub_self]; rfl
  | cons o os ih =>
    intro n m cO cA cT cE hm hs hn h hl
    have hlen : (o :: os).length = os.length + 1 := rfl
    rw [hlen] at hm hn
    obtain ⟨m, rfl⟩ : ∃ k, m = k + 1 := ⟨m - 1, by omega⟩
    have e1 : nI (o :: os).length - 1 = nI os.length := nI_pred _
    have cl : (nI (o :: os).length - 1).toNatClampNeg = os.length := by rw [e1]; exact nI_clamp (by omega)
    refine br_f (nI_nle (by rw [hlen]; omega) (by rw [hlen]; omega)) (And.intro (by rw [e1]; exact vp_in_nI (by omega) (by omega)) (nm_r (e' := o) (by rw [cl]; exact hs.1) (sf_x_prec ?_)))
    have pl := sf_pc_le o
    rcases Nat.lt_or_ge (sf_pc o) lev with z | z
    · refine br_f (nI_ge z (by omega)) (h n cO cA cT cE |> fun H => ?_)
      rw [sf_ro_c1 z] at H
      refine H (by omega) (fun j _ => ⟨rfl, rfl, rfl, rfl⟩) (fun j a b => absurd a (by omega)) (fun f nm vr st => ?_)
      rw [Nat.sub_self, sf_rv_c1 z]; rfl
    · refine br_t (nI_le z (by omega)) (sf_x_emit (by omega) (nm_r e1 (nm_r (sf_m1 (n := (o :: os).length) (by rw [hlen]; omega)) ?_)))
      refine ih (n + 1) m (upd cO n 3) (upd cA n o) (upd cT n xj) (upd cE n 0) (by omega) hs.2 (by omega) ?_ hl
      intro n' cO' cA' cT' cE' q1 q2 q3 q4
      have R : (sf_ro lev os).length ≤ os.length := by
        have : ∀ l : List Int32, (sf_ro lev l).length ≤ l.length := by
          intro l
          induction l with
          | nil => exact Nat.le_refl _
          | cons a l ih2 =>
            show (if sf_pc a < lev then a :: l else sf_ro lev l).length ≤ l.length + 1
            split
            · exact Nat.le_refl _
            · omega
        exact this os
      have H := h n' cO' cA' cT' cE'
      rw [sf_ro_c2 z, hlen] at H
      refine H (by omega) (fun j hj => ?_) (fun j a b => ?_) (fun f nm vr st => ?_)
      · have := q2 j (by omega)
        rw [pk_un (by omega), pk_un (by omega), pk_un (by omega), pk_un (by omega)] at this; exact this
      · rcases Nat.lt_or_ge n j with y | y
        · exact q3 j y b
        · have : j = n := by omega
          subst this
          rw [(q2 j (by omega)).1, pk_us]
      · rw [show n' - n = (n' - (n + 1)) + 1 from by omega]
        show sf_cr f nm vr cO' cA' (n + 1) (n' - (n + 1)) (sf_ci f nm vr (cO' n) (cA' n) st) = _
        rw [q4, (q2 n (by omega)).1, (q2 n (by omega)).2.1, pk_us, pk_us, sf_rv_c2 z]
        rfl
theorem sf_x_reduce {post : SX → Prop} {lev n : Nat} {os : List Int32} (hl : lev ≤ 5) (hs : sf_SK oP os) (hn : n + os.length ≤ 127)
    (h : ∀ n' cO' cA' cT' cE', n' = n + (os.length - (sf_ro lev os).length) → (∀ j, j < n → cO' j = cO j ∧ cA' j = cA j ∧ cT' j = cT j ∧ cE' j = cE j) → (∀ j, n ≤ j → j < n' → cO' j = 3) → (∀ (f : sf_F) (nm vr : Int32 → Int32) (st : List Int32), sf_cr f nm vr cO' cA' n (n' - n) st = sf_rv f lev os st) →
      post (xv, xt, xo, xc, xs, xf, xr, xp, xl, (nI n'), (nI (sf_ro lev os).length), xy, xd, xe, xw, xk, xj, xh, xz, K, A, L, aI, aS, M, oL, oC, oV, kS, kM, kC, kV, cO', cA', cT', cE', oP, bK, bB, bL, sT, rE, rO, fL)) : wpX_reduce post (xv, xt, xo, xc, xs, xf, xr, xp, xl, (nI n), (nI os.length), xy, xd, xe, xw, xk, xj, xh, xz, K, A, L, aI, aS, M, oL, oC, oV, kS, kM, kC, kV, cO, cA, cT, cE, oP, bK, bB, bL, sT, rE, rO, fL) (nI lev) :=
  ⟨os.length + 1, sf_x_red5 os n _ cO cA cT cE (by omega) hs hn h hl⟩
theorem sf_x_begins {post : Int32 → Prop} {k : Int32} (h1 : sf_b k → post 1) (h0 : ¬ sf_b k → post 0) : wpX_beginsStatement post (xv, xt, xo, xc, xs, xf, xr, xp, xl, xn, xq, xy, xd, xe, xw, xk, xj, xh, xz, K, A, L, aI, aS, M, oL, oC, oV, kS, kM, kC, kV, cO, cA, cT, cE, oP, bK, bB, bL, sT, rE, rO, fL) k :=
  br_c (fun h => h1 (Or.inl h)) fun n6 => br_c (fun h => h1 (Or.inr (Or.inl h))) fun n7 => br_c (fun h => h1 (Or.inr (Or.inr (Or.inl h)))) fun n8 =>
    br_c (fun h => h1 (Or.inr (Or.inr (Or.inr h)))) fun n12 => h0 (by rintro (h | h | h | h); exact n6 h; exact n7 h; exact n8 h; exact n12 h)
theorem sf_x_guard {post : Int32 → Prop} (h1 : sf_g xk → post 1) (h0 : ¬ sf_g xk → post 0) : wpX_isGuard post (xv, xt, xo, xc, xs, xf, xr, xp, xl, xn, xq, xy, xd, xe, xw, xk, xj, xh, xz, K, A, L, aI, aS, M, oL, oC, oV, kS, kM, kC, kV, cO, cA, cT, cE, oP, bK, bB, bL, sT, rE, rO, fL) :=
  br_c (fun h => h1 (Or.inl h)) fun n8 => br_c (fun h => h1 (Or.inr h)) fun n12 => h0 (by rintro (h | h); exact n8 h; exact n12 h)
end
/-! the parser's state -/
def sf_PI (nv c : Nat) (K A : Nat → Int32) (p : Nat) (xn xq xy xd xe xw xk xj xh : Int32) (cO cA cT cE oP bK bB bL : Nat → Int32) : Prop :=
  (xe = 0 ∧ xn = nI (sf_ad K p) ∧ xq = nI 0 ∧ xy = nI 0 ∧ xd = nI (sf_BK K p).length ∧ sf_CD nv c K A cO cA cT cE p ∧ sf_SB K c bK bB bL (sf_BK K p) ∧ sf_pr K p = 0 ∧ (((sf_bf K p = 9 ∨ sf_bf K p = 10) ∧ sf_BK K p ≠ []) ∨ sf_bf K p = 11)) ∨
  (∃ s n w os, xe = 1 ∧ xn = nI n ∧ xq = nI (List.length os) ∧ xy = nI (sf_nq os) ∧ xd = nI (sf_BK K s).length ∧ xw = (if w = true then 1 else 0) ∧ xk = K s ∧ xj = nI s ∧ xh = nI (sf_ad K s) ∧ sf_CD nv c K A cO cA cT cE s ∧ sf_SB K c bK bB bL (sf_BK K s) ∧ sf_SK oP os ∧ sf_ME nv c K A cO cA cT s p n w os)
end
section
/-! the component: a token between statements -/
section
variable {xv xt xo xc xs xf xr xp xl xn xq xy xd xe xw xk xj xh xz : Int32} {K A L aI aS M oL oC oV kS kM kC kV cO cA cT cE oP bK bB bL sT rE rO fL : Nat → Int32}
variable {nv c p : Nat}
theorem sf_x_else {post : Int32 → SX → Prop} (hc : c ≤ 96) (hp : p < c) (k : K p = 10) (D : sf_CD nv c K A cO cA cT cE p) (SBx : sf_SB K c bK bB bL (sf_BK K p)) (hpr : sf_pr K p = 0)
    (h1 : sf_FS K p → ∀ (xn xq xy xd xe xw xk xj xh : Int32) (cO cA cT cE oP bK bB bL : Nat → Int32), sf_PI nv c K A (p + 1) xn xq xy xd xe xw xk xj xh cO cA cT cE oP bK bB bL → post 1 (xv, xt, xo, xc, xs, xf, xr, xp, xl, xn, xq, xy, xd, xe, xw, xk, xj, xh, xz, K, A, L, aI, aS, M, oL, oC, oV, kS, kM, kC, kV, cO, cA, cT, cE, oP, bK, bB, bL, sT, rE, rO, fL)) (h0 : ¬ sf_FS K p → ∀ (xn xq xy xd xe xw xk xj xh : Int32) (cO cA cT cE oP bK bB bL : Nat → Int32), post 0 (xv, xt, xo, xc, xs, xf, xr, xp, xl, xn, xq, xy, xd, xe, xw, xk, xj, xh, xz, K, A, L, aI, aS, M, oL, oC, oV, kS, kM, kC, kV, cO, cA, cT, cE, oP, bK, bB, bL, sT, rE, rO, fL)) :
    wpX_openElse post (xv, xt, xo, xc, xs, xf, xr, xp, xl, (nI (sf_ad K p)), (nI 0), (nI 0), (nI (sf_BK K p).length), 0, xw, xk, xj, xh, xz, K, A, L, aI, aS, M, oL, oC, oV, kS, kM, kC, kV, cO, cA, cT, cE, oP, bK, bB, bL, sT, rE, rO, fL) := by
  have nb : ¬ sf_b (K p) := by rw [k]; decide
  have al := sf_ad_le (K := K) p
  cases hb : sf_BK K p with
  | nil =>
    refine br_t rfl (h0 ?_ _ _ _ _ _ _ _ _ _ _ _ _ _ _ _ _ _)
    rintro (z | ⟨z, _⟩ | ⟨_, o, B, z, _⟩)
    · exact nb z
    · rw [k] at z; revert z; decide
    · rw [hb] at z; exact nomatch z
  | cons x B =>
    obtain ⟨o, s⟩ := x
    rw [hb] at SBx
    obtain ⟨b1, b2, b3, b4, b5⟩ := SBx
    dsimp only at b1 b2 b3 b4
    have bl := sf_BK_len K p
    rw [hb] at bl
    have bl' : B.length + 1 ≤ p := bl
    have e1 : nI ((o, s) :: B).length - 1 = nI B.length := nI_pred _
    have cl : (nI B.length).toNatClampNeg = B.length := nI_clamp (by omega)
    have hv : vp_in (nI B.length) 96 := vp_in_nI (by omega) (by omega)
    obtain ⟨j1, j2, j3, j4, j5, j6, j7, j8, j9, j10⟩ := sf_CD_ja D (Nat.le_refl _) hb
    refine br_f (nI_ne0 (by show 0 < B.length + 1; omega) (by show B.length + 1 < _; omega)) (nm_r e1 (And.intro hv ?_))
    by_cases q : s = o ∧ K o = 8
    · obtain ⟨q1, q2⟩ := q
      subst q1
      rw [if_pos rfl, q2] at b1
      have clt : (nI (sf_ti K c s)).toNatClampNeg = sf_ti K c s := nI_clamp (by omega)
      have hvt : vp_in (nI (sf_ti K c s)) 128 := vp_in_nI (by omega) (by omega)
      have ej : sf_ja K c s = sf_ti K c s := if_neg (by rw [q2]; decide)
      have adp : sf_ad K (p + 1) = sf_ad K p + 1 := by rw [sf_ad_s, sf_cw_1 (by simp [k])]
      refine br_t (by rw [cl]; exact b1) (And.intro hv (nm_r (e' := nI (sf_ti K c s)) (by rw [cl]; exact b2) (And.intro hv (nm_r (e' := upd bK B.length 10) (by rw [cl]) (And.intro hv (nm_r (e' := upd bL B.length (nI (sf_ad K p))) (by rw [cl]) (And.intro hvt (sf_x_emit (by omega) (And.intro hvt (nm_r (e' := upd (upd cA (sf_ad K p) 0) (sf_ti K c s) (nI (sf_ad K (p + 1)))) (by rw [clt, adp]) ?_))))))))))
      refine h1 (Or.inr (Or.inr ⟨k, s, B, hb, q2⟩)) _ _ _ _ _ _ _ _ _ _ _ _ _ _ _ _ _ (Or.inl ⟨rfl, by rw [adp], rfl, rfl, ?_, ?_, ?_, ?_, Or.inl ⟨Or.inr (by rw [sf_bf_s]; exact k), by rw [sf_BK_10 k hb]; simp⟩⟩)
      · rw [sf_BK_10 k hb]; rfl
      · refine sf_CD_patch D (by omega) (Or.inl k) hb (fun j hj => pk_un (by omega)) (fun j hj => pk_un (by omega)) (fun j hj hne => ?_) ?_ (fun j hj _ => pk_un (by omega)) (fun z => absurd (k.symm.trans z) (by decide)) (fun _ => pk_us) (fun z => absurd (k.symm.trans z) (by decide))
        · rw [ej] at hne
          rw [pk_un hne, pk_un (by omega)]
        · rw [ej, pk_us]
      · rw [sf_BK_10 k hb]
        refine ⟨?_, b2, pk_us, Or.inr q2, sf_SB_up B (fun j hj => ⟨pk_un (by omega), rfl, pk_un (by omega)⟩) b5⟩
        show upd bK B.length 10 B.length = if p = s then K s else 10
        rw [pk_us, if_neg (by omega)]
      · rw [sf_pr_n (by rw [k]; decide) (by rw [k]; decide)]; exact hpr
    · have nq : bK B.length ≠ 8 := by
        rw [b1]
        by_cases z : s = o
        · rw [if_pos z]
          exact fun y => q ⟨z, y⟩
        · rw [if_neg z]; decide
      refine br_f (by rw [cl]; exact nq) (h0 ?_ _ _ _ _ _ _ _ _ _ _ _ _ _ _ _ _ _)
      rintro (z | ⟨z, _⟩ | ⟨_, o', B', z, z2⟩)
      · exact nb z
      · rw [k] at z; revert z; decide
      · rw [hb] at z
        have := (List.cons.inj z).1
        have t1 := congrArg Prod.fst this
        have t2 := congrArg Prod.snd this
        dsimp only at t1 t2
        subst t1
        exact q ⟨t2, z2⟩
theorem sf_x_cb97 {post : Int32 → SX → Prop} {x n : Nat} (hx : x < 128) (h : post 1 (xv, xt, xo, xc, xs, xf, xr, xp, xl, (nI n), xq, xy, xd, xe, xw, xk, xj, xh, xz, K, A, L, aI, aS, M, oL, oC, oV, kS, kM, kC, kV, cO, cA, cT, (upd cE x (nI n)), oP, bK, bB, bL, sT, rE, rO, fL)) : wX_closeBlock_97 post (nI x) xv xt xo xc xs xf xr xp xl (nI n) xq xy xd xe xw xk xj xh xz K A L aI aS M oL oC oV kS kM kC kV cO cA cT cE oP bK bB bL sT rE rO fL :=
  And.intro (vp_in_nI hx (by omega)) (nm_r (e' := upd cE x (nI n)) (by rw [nI_clamp (by omega)]) h)
theorem sf_x_cb68 {post : Int32 → SX → Prop} {x1 : Int32} {y x n a : Nat} (hx : x < 128) (hy : y < 128) (ha : a = if x1 = 10 then y else x) (h : post 1 (xv, xt, xo, xc, xs, xf, xr, xp, xl, (nI n), xq, xy, xd, xe, xw, xk, xj, xh, xz, K, A, L, aI, aS, M, oL, oC, oV, kS, kM, kC, kV, cO, (upd cA a (nI n)), cT, (upd cE x (nI n)), oP, bK, bB, bL, sT, rE, rO, fL)) : wX_closeBlock_68 post x1 (nI x) (nI y) xv xt xo xc xs xf xr xp xl (nI n) xq xy xd xe xw xk xj xh xz K A L aI aS M oL oC oV kS kM kC kV cO cA cT cE oP bK bB bL sT rE rO fL := by
  by_cases z : x1 = 10
  · rw [if_pos z] at ha
    subst ha
    exact br_t z (And.intro (vp_in_nI hy (by omega)) (nm_r (e' := upd cA a (nI n)) (by rw [nI_clamp (by omega)]) (sf_x_cb97 hx h)))
  · rw [if_neg z] at ha
    subst ha
    exact br_f z (And.intro (vp_in_nI hx (by omega)) (nm_r (e' := upd cA a (nI n)) (by rw [nI_clamp (by omega)]) (sf_x_cb97 hx h)))
theorem sf_x_end {post : Int32 → SX → Prop} (hc : c ≤ 96) (hp : p < c) (k : K p = 11) (D : sf_CD nv c K A cO cA cT cE p) (SBx : sf_SB K c bK bB bL (sf_BK K p)) (hpr : sf_pr K p = 0)
    (h1 : sf_FS K p → ∀ (xn xq xy xd xe xw xk xj xh : Int32) (cO cA cT cE oP bK bB bL : Nat → Int32), sf_PI nv c K A (p + 1) xn xq xy xd xe xw xk xj xh cO cA cT cE oP bK bB bL → post 1 (xv, xt, xo, xc, xs, xf, xr, xp, xl, xn, xq, xy, xd, xe, xw, xk, xj, xh, xz, K, A, L, aI, aS, M, oL, oC, oV, kS, kM, kC, kV, cO, cA, cT, cE, oP, bK, bB, bL, sT, rE, rO, fL)) (h0 : ¬ sf_FS K p → ∀ (xn xq xy xd xe xw xk xj xh : Int32) (cO cA cT cE oP bK bB bL : Nat → Int32), post 0 (xv, xt, xo, xc, xs, xf, xr, xp, xl, xn, xq, xy, xd, xe, xw, xk, xj, xh, xz, K, A, L, aI, aS, M, oL, oC, oV, kS, kM, kC, kV, cO, cA, cT, cE, oP, bK, bB, bL, sT, rE, rO, fL)) :
    wpX_closeBlock post (xv, xt, xo, xc, xs, xf, xr, xp, xl, (nI (sf_ad K p)), (nI 0), (nI 0), (nI (sf_BK K p).length), 0, xw, xk, xj, xh, xz, K, A, L, aI, aS, M, oL, oC, oV, kS, kM, kC, kV, cO, cA, cT, cE, oP, bK, bB, bL, sT, rE, rO, fL) := by
  have nb : ¬ sf_b (K p) := by rw [k]; decide
  have al := sf_ad_le (K := K) p
  cases hb : sf_BK K p with
  | nil =>
    refine br_t rfl (h0 ?_ _ _ _ _ _ _ _ _ _ _ _ _ _ _ _ _ _)
    rintro (z | ⟨_, z⟩ | ⟨_, o, B, z, _⟩)
    · exact nb z
    · exact z hb
    · rw [hb] at z; exact nomatch z
  | cons x B =>
    obtain ⟨o, s⟩ := x
    have FS : sf_FS K p := Or.inr (Or.inl ⟨k, by rw [hb]; simp⟩)
    have EN := sf_EN_BK K p
    rw [hb] at SBx EN
    obtain ⟨b1, b2, b3, b4, b5⟩ := SBx
    have e4 := EN.2.2.2.1
    have e3 := EN.2.2.1
    dsimp only at b1 b2 b3 b4 e4 e3
    have bl := sf_BK_len K p
    rw [hb] at bl
    have bl' : B.length + 1 ≤ p := bl
    have e1 : nI ((o, s) :: B).length - 1 = nI B.length := nI_pred _
    have cl : (nI B.length).toNatClampNeg = B.length := nI_clamp (by omega)
    have hv : vp_in (nI B.length) 96 := vp_in_nI (by omega) (by omega)
    obtain ⟨j1, j2, j3, j4, j5, j6, j7, j8, j9, j10⟩ := sf_CD_ja D (Nat.le_refl _) hb
    have as := sf_ad_le (K := K) s
    have hvt : vp_in (nI (sf_ti K c o)) 128 := vp_in_nI (by omega) (by omega)
    have ej : sf_ja K c s = if (if s = o then K o else 10) = 10 then sf_ad K s else sf_ti K c o := by
      by_cases z : s = o
      · subst z
        unfold sf_ja
        rw [if_pos rfl]
      · have : K s = 10 := by
          rcases e4 with y | y
          · exact absurd y.symm z
          · exact y
        unfold sf_ja
        rw [if_neg z, if_pos this, if_pos rfl]
    have ne10 : (if s = o then K o else 10) = 12 → s = o ∧ K o = 12 := by
      intro z
      by_cases y : s = o
      · rw [if_pos y] at z; exact ⟨y, z⟩
      · rw [if_neg y] at z; exact absurd z (by decide)
    refine br_f (nI_ne0 (by show 0 < B.length + 1; omega) (by show B.length + 1 < _; omega)) (nm_r e1 (And.intro hv (nm_r (e' := if s = o then K o else 10) (by rw [cl]; exact b1) (And.intro hv (nm_r (e' := nI (sf_ti K c o)) (by rw [cl]; exact b2) (And.intro hv (nm_r (e' := nI (sf_ad K s)) (by rw [cl]; exact b3) ?_)))))))
    by_cases q : (if s = o then K o else 10) = 12
    · obtain ⟨q1, q2⟩ := ne10 q
      have adp : sf_ad K (p + 1) = sf_ad K p + 1 := by rw [sf_ad_s, sf_cw_E k hb, if_pos q2]
      refine br_t q (And.intro hvt (sf_x_emit (by omega) (sf_x_cb68 (a := sf_ja K c s) (by omega) (by omega) ej ?_)))
      refine h1 FS _ _ _ _ _ _ _ _ _ _ _ _ _ _ _ _ _ (Or.inl ⟨rfl, by rw [adp], rfl, rfl, ?_, ?_, ?_, ?_, Or.inr (by rw [sf_bf_s]; exact k)⟩)
      · rw [sf_BK_11 k, hb]; rfl
      · refine sf_CD_patch D (by omega) (Or.inr k) hb (fun j hj => pk_un (by omega)) (fun j hj => pk_un (by omega)) (fun j hj hne => ?_) ?_ (fun j hj hne => ?_) (fun _ => ?_) (fun z => absurd (k.symm.trans z) (by decide)) (fun _ _ => ⟨pk_us, ?_⟩)
        · rw [pk_un hne, pk_un (by omega)]
        · rw [pk_us, adp]
        · rw [pk_un (hne k), pk_un (by omega)]
        · rw [pk_us, adp]
        · rw [pk_un (by omega), pk_us, q1]
      · rw [sf_BK_11 k, hb]; exact b5
      · rw [sf_pr_n (by rw [k]; decide) (by rw [k]; decide)]; exact hpr
    · have ko : K o ≠ 12 := by
        intro z
        rcases b4 with y | y
        · rw [if_pos y] at q; exact q z
        · rw [z] at y; exact absurd y (by decide)
      have adp : sf_ad K (p + 1) = sf_ad K p := by rw [sf_ad_s, sf_cw_E k hb, if_neg ko]; rfl
      refine br_f q (sf_x_cb68 (a := sf_ja K c s) (by omega) (by omega) ej ?_)
      refine h1 FS _ _ _ _ _ _ _ _ _ _ _ _ _ _ _ _ _ (Or.inl ⟨rfl, by rw [adp], rfl, rfl, ?_, ?_, ?_, ?_, Or.inr (by rw [sf_bf_s]; exact k)⟩)
      · rw [sf_BK_11 k, hb]; rfl
      · refine sf_CD_patch D (by omega) (Or.inr k) hb (fun j hj => rfl) (fun j hj => rfl) (fun j hj hne => ?_) ?_ (fun j hj hne => ?_) (fun _ => ?_) (fun z => absurd (k.symm.trans z) (by decide)) (fun _ z => absurd z ko)
        · rw [pk_un hne]
        · rw [pk_us, adp]
        · rw [pk_un (hne k)]
        · rw [pk_us, adp]
      · rw [sf_BK_11 k, hb]; exact b5
      · rw [sf_pr_n (by rw [k]; decide) (by rw [k]; decide)]; exact hpr
theorem sf_x_stmt {post : Int32 → SX → Prop} (hc : c ≤ 96) (hp : p < c) (HD : ¬ sf_e (K p) → sf_CD nv c K A cO cA cT cE p) (SBx : sf_SB K c bK bB bL (sf_BK K p)) (hpr : sf_pr K p = 0)
    (h1 : sf_FS K p → ∀ (xn xq xy xd xe xw xk xj xh : Int32) (cO cA cT cE oP bK bB bL : Nat → Int32), sf_PI nv c K A (p + 1) xn xq xy xd xe xw xk xj xh cO cA cT cE oP bK bB bL → post 1 (xv, xt, xo, xc, xs, xf, xr, xp, xl, xn, xq, xy, xd, xe, xw, xk, xj, xh, xz, K, A, L, aI, aS, M, oL, oC, oV, kS, kM, kC, kV, cO, cA, cT, cE, oP, bK, bB, bL, sT, rE, rO, fL)) (h0 : ¬ sf_FS K p → ∀ (xn xq xy xd xe xw xk xj xh : Int32) (cO cA cT cE oP bK bB bL : Nat → Int32), post 0 (xv, xt, xo, xc, xs, xf, xr, xp, xl, xn, xq, xy, xd, xe, xw, xk, xj, xh, xz, K, A, L, aI, aS, M, oL, oC, oV, kS, kM, kC, kV, cO, cA, cT, cE, oP, bK, bB, bL, sT, rE, rO, fL)) :
    wpX_acceptStatement post (xv, xt, xo, xc, xs, xf, xr, xp, xl, (nI (sf_ad K p)), (nI 0), (nI 0), (nI (sf_BK K p).length), 0, xw, xk, xj, xh, xz, K, A, L, aI, aS, M, oL, oC, oV, kS, kM, kC, kV, cO, cA, cT, cE, oP, bK, bB, bL, sT, rE, rO, fL) (nI p) := by
  have cl : (nI p).toNatClampNeg = p := nI_clamp (by omega)
  have al := sf_ad_le (K := K) p
  refine And.intro (vp_in_nI (by omega) (by omega)) (nm_r (e' := K p) (by rw [cl]) ?_)
  by_cases a : K p = 10
  · refine br_t a (sf_x_else hc hp a (HD (by rw [a]; decide)) SBx hpr (fun F => ?_) (fun F => ?_))
    · intro xn xq xy xd xe xw xk xj xh cO cA cT cE oP bK bB bL H
      exact And.intro rfl (h1 F _ _ _ _ _ _ _ _ _ _ _ _ _ _ _ _ _ H)
    · intro xn xq xy xd xe xw xk xj xh cO cA cT cE oP bK bB bL
      exact And.intro rfl (h0 F _ _ _ _ _ _ _ _ _ _ _ _ _ _ _ _ _)
  · refine br_f a ?_
    by_cases b : K p = 11
    · refine br_t b (sf_x_end hc hp b (HD (by rw [b]; decide)) SBx hpr (fun F => ?_) (fun F => ?_))
      · intro xn xq xy xd xe xw xk xj xh cO cA cT cE oP bK bB bL H
        exact And.intro rfl (h1 F _ _ _ _ _ _ _ _ _ _ _ _ _ _ _ _ _ H)
      · intro xn xq xy xd xe xw xk xj xh cO cA cT cE oP bK bB bL
        exact And.intro rfl (h0 F _ _ _ _ _ _ _ _ _ _ _ _ _ _ _ _ _)
    · refine br_f b (sf_x_begins (fun hb => br_f (by decide) ?_) (fun nb => br_t rfl (h0 ?_ _ _ _ _ _ _ _ _ _ _ _ _ _ _ _ _ _)))
      · have D := HD (fun z => (sf_ge z).2.2.2.1 hb)
        by_cases t : K p = 12
        · have hd : sf_hd K p = sf_ad K p + 1 := by unfold sf_hd; rw [if_pos t]
          refine br_t t (sf_x_emit (by omega) (h1 (Or.inl hb) _ _ _ _ _ _ _ _ _ _ _ _ _ _ _ _ _ (Or.inr ⟨p, sf_hd K p, true, [], rfl, by rw [hd], rfl, rfl, rfl, rfl, rfl, rfl, rfl, ?_, SBx, trivial, ?_⟩)))
          · exact sf_CD_agree D (fun j hj => ⟨pk_un (by omega), pk_un (by omega), pk_un (by omega), pk_un (by omega)⟩)
          · exact sf_ME_beg hp hb (fun _ => ⟨pk_us, pk_us⟩) hpr
        · have hd : sf_hd K p = sf_ad K p := by unfold sf_hd; rw [if_neg t]; rfl
          refine br_f t (h1 (Or.inl hb) _ _ _ _ _ _ _ _ _ _ _ _ _ _ _ _ _ (Or.inr ⟨p, sf_hd K p, true, [], rfl, by rw [hd], rfl, rfl, rfl, rfl, rfl, rfl, rfl, D, SBx, trivial, ?_⟩))
          exact sf_ME_beg hp hb (fun z => absurd z t) hpr
      · rintro (z | ⟨z, _⟩ | ⟨z, _⟩)
        · exact nb z
        · exact b z
        · exact a z
end
end
section
/-! the component: a token, whatever stands before it -/
section
variable {xv xt xo xc xs xf xr xp xl xn xq xy xd xe xw xk xj xh xz : Int32} {K A L aI aS M oL oC oV kS kM kC kV cO cA cT cE oP bK bB bL sT rE rO fL : Nat → Int32}
variable {nv c p s n : Nat} {os : List Int32}
theorem sf_BK_in (hs : s < p) (he : ∀ j, s < j → j < p → sf_e (K j)) : sf_BK K p = sf_BK K (s + 1) := by
  have := sf_BK_es (K := K) (p := s + 1) (p - (s + 1)) (fun j a b => he j (by omega) (by omega))
  rw [show s + 1 + (p - (s + 1)) = p from by omega] at this; exact this
theorem sf_x_endSimple {post : SX → Prop} (D : sf_CD nv c K A cO cA cT cE s) (H : sf_ME nv c K A cO cA cT s p n false os) (h0 : sf_nq os = 0) (hg : ¬ sf_g (K s)) (hS : sf_SK oP os) (hc : c ≤ 96)
    (h : ∀ cO cA cT cE, ((p = c ∨ ¬ sf_e (K p)) → sf_CD nv c K A cO cA cT cE p) → post (xv, xt, xo, xc, xs, xf, xr, xp, xl, (nI (sf_ad K p)), (nI 0), xy, xd, 0, xw, (K s), (nI s), xh, xz, K, A, L, aI, aS, M, oL, oC, oV, kS, kM, kC, kV, cO, cA, cT, cE, oP, bK, bB, bL, sT, rE, rO, fL)) : wpX_endSimple post (xv, xt, xo, xc, xs, xf, xr, xp, xl, (nI n), (nI os.length), xy, xd, xe, xw, (K s), (nI s), xh, xz, K, A, L, aI, aS, M, oL, oC, oV, kS, kM, kC, kV, cO, cA, cT, cE, oP, bK, bB, bL, sT, rE, rO, fL) := by
  have a1 := H.1
  have a2 := H.2.1
  have a3 := H.2.2.1
  have a4 := H.2.2.2.1
  have a5 := H.2.2.2.2.1
  have a6 := H.2.2.2.2.2.1
  have a7 := H.2.2.2.2.2.2.1
  have al := sf_ad_le (K := K) p
  have N := sf_npq os
  have z := sf_ro_nil os a5 h0
  rw [if_neg hg] at a6
  have cl : (nI s).toNatClampNeg = s := nI_clamp (by omega)
  refine sf_x_reduce (lev := 1) (by omega) hS (by omega) ?_
  intro n' cO' cA' cT' cE' q1 q2 q3 q4
  rw [z] at q1 ⊢
  have q1' : n' = n + os.length := q1
  have E := sf_ME_EX H h0 q1' (fun j hj => ⟨(q2 j hj).1, (q2 j hj).2.1⟩) q3 q4
  have E2 := E.2
  rw [if_neg hg] at E2
  have hdl : sf_ad K s ≤ sf_hd K s := by unfold sf_hd; omega
  refine And.intro (vp_in_nI (by omega) (by omega)) ?_
  rw [cl]
  refine sf_x_emit (by omega) ?_
  have e3 : nI (n' + 1) = nI (sf_ad K p) := by rw [E2]
  rw [e3]
  refine h _ _ _ _ fun hpe => ?_
  refine sf_CD_simple (sf_CD_agree D fun j hj => ?_) a1 a2 a3 hg a4 hpe (sf_EX_agree E.1 fun j x y => ⟨pk_un (by omega), pk_un (by omega)⟩) E2 pk_us pk_us pk_us
  have := q2 j (by omega)
  rw [pk_un (by omega), pk_un (by omega), pk_un (by omega), pk_un (by omega)]; exact this
theorem sf_x_openBlock {post : Int32 → SX → Prop} (D : sf_CD nv c K A cO cA cT cE s) (H : sf_ME nv c K A cO cA cT s p n false os) (h0 : sf_nq os = 0) (hg : sf_g (K s)) (hS : sf_SK oP os) (SBx : sf_SB K c bK bB bL (sf_BK K s)) (hc : c ≤ 96) (hp : p < c) (h9 : K p = 9)
    (h : ∀ (xn xq xy xd xe xw xk xj xh : Int32) (cO cA cT cE oP bK bB bL : Nat → Int32), sf_PI nv c K A (p + 1) xn xq xy xd xe xw xk xj xh cO cA cT cE oP bK bB bL → post 1 (xv, xt, xo, xc, xs, xf, xr, xp, xl, xn, xq, xy, xd, xe, xw, xk, xj, xh, xz, K, A, L, aI, aS, M, oL, oC, oV, kS, kM, kC, kV, cO, cA, cT, cE, oP, bK, bB, bL, sT, rE, rO, fL)) : wpX_openBlock post (xv, xt, xo, xc, xs, xf, xr, xp, xl, (nI n), (nI os.length), (nI 0), (nI (sf_BK K s).length), xe, xw, (K s), (nI s), (nI (sf_ad K s)), xz, K, A, L, aI, aS, M, oL, oC, oV, kS, kM, kC, kV, cO, cA, cT, cE, oP, bK, bB, bL, sT, rE, rO, fL) := by
  have a1 := H.1
  have a2 := H.2.1
  have a4 := H.2.2.2.1
  have a5 := H.2.2.2.2.1
  have a6 := H.2.2.2.2.2.1
  have a7 := H.2.2.2.2.2.2.1
  have a8 := H.2.2.2.2.2.2.2.1
  have a11 := H.2.2.2.2.2.2.2.2.2.2.1
  have al := sf_ad_le (K := K) p
  have as := sf_BK_len K s
  have N := sf_npq os
  have z := sf_ro_nil os a5 h0
  rw [if_pos hg] at a6
  have cl : (nI (sf_BK K s).length).toNatClampNeg = (sf_BK K s).length := nI_clamp (by omega)
  have hv : vp_in (nI (sf_BK K s).length) 96 := vp_in_nI (by omega) (by omega)
  refine br_t (nI_lt (b := 96) (by omega) (by omega)) (sf_x_reduce (lev := 1) (by omega) hS (by omega) ?_)
  intro n' cO' cA' cT' cE' q1 q2 q3 q4
  rw [z] at q1 ⊢
  have q1' : n' = n + os.length := q1
  have E := sf_ME_EX H h0 q1' (fun j hj => ⟨(q2 j hj).1, (q2 j hj).2.1⟩) q3 q4
  have E2 := E.2
  rw [if_pos hg] at E2
  have hdl : sf_ad K s ≤ sf_hd K s := by unfold sf_hd; omega
  have hd12 : K s = 12 → sf_hd K s = sf_ad K s + 1 := fun k => by unfold sf_hd; rw [if_pos k]
  have bk : sf_BK K (p + 1) = (s, s) :: sf_BK K s := by
    rw [sf_BK_n (by rw [h9]; decide) (by rw [h9]; decide) (by rw [h9]; decide), sf_BK_in a1 a4, sf_BK_g hg]
  refine And.intro hv (nm_r (e' := upd bK (sf_BK K s).length (K s)) (by rw [cl]) (And.intro hv (nm_r (e' := upd bB (sf_BK K s).length (nI n')) (by rw [cl]) (And.intro hv (nm_r (e' := upd bL (sf_BK K s).length (nI (sf_ad K s))) (by rw [cl]) (nm_r (nI_1 _) (sf_x_emit (by omega) ?_)))))))
  have T := sf_CD_do (p := p) (n := n') (nv := nv) (A := A) (cO := upd cO' n' 9) (cA := upd cA' n' 0) (cT := upd cT' n' (nI s)) (cE := upd cE' n' 0) (sf_CD_agree D fun j hj => ?_) a1 hp hg a4 h9 (fun k => ?_) (sf_EX_agree E.1 fun j x y => ⟨pk_un (by omega), pk_un (by omega)⟩) (by omega) pk_us pk_us
  · refine h _ _ _ _ _ _ _ _ _ _ _ _ _ _ _ _ _ (Or.inl ⟨rfl, ?_, rfl, rfl, ?_, T.1, ?_, ?_, Or.inl ⟨Or.inl (by rw [sf_bf_s]; exact h9), by rw [bk]; simp⟩⟩)
    · rw [sf_ad_s, sf_cw_1 (by simp [h9])]; exact congrArg nI (by omega)
    · rw [bk]; rfl
    · rw [bk]
      refine ⟨?_, ?_, pk_us, Or.inl rfl, sf_SB_up _ (fun j hj => ⟨pk_un (by omega), pk_un (by omega), pk_un (by omega)⟩) SBx⟩
      · dsimp only
        rw [pk_us, if_pos rfl]
      · dsimp only
        rw [pk_us, T.2]
    · rw [sf_pr_n (by rw [h9]; decide) (by rw [h9]; decide), a11, h0]
  · have := q2 j (by omega)
    rw [pk_un (by omega), pk_un (by omega), pk_un (by omega), pk_un (by omega)]; exact this
  · have := hd12 k
    have q := q2 (sf_ad K s) (by omega)
    rw [pk_un (by omega), pk_un (by omega), q.1, q.2.2.1]; exact a8 k
theorem sf_x_operand {post : Int32 → SX → Prop} (D : sf_CD nv c K A cO cA cT cE s) (H : sf_ME nv c K A cO cA cT s p n true os) (hS : sf_SK oP os) (SBx : sf_SB K c bK bB bL (sf_BK K s)) (hc : c ≤ 96) (hp : p < c) (hA : K p = 2 → vp_in (A p) nv)
    (h1 : (K p = 1 ∨ K p = 2 ∨ K p = 4) → ∀ (xn xq xy xd xe xw xk xj xh : Int32) (cO cA cT cE oP bK bB bL : Nat → Int32), sf_PI nv c K A (p + 1) xn xq xy xd xe xw xk xj xh cO cA cT cE oP bK bB bL → post 1 (xv, xt, xo, xc, xs, xf, xr, xp, xl, xn, xq, xy, xd, xe, xw, xk, xj, xh, xz, K, A, L, aI, aS, M, oL, oC, oV, kS, kM, kC, kV, cO, cA, cT, cE, oP, bK, bB, bL, sT, rE, rO, fL)) (h0 : ¬ (K p = 1 ∨ K p = 2 ∨ K p = 4) → post 0 (xv, xt, xo, xc, xs, xf, xr, xp, xl, (nI n), (nI os.length), (nI (sf_nq os)), (nI (sf_BK K s).length), 1, 1, (K s), (nI s), (nI (sf_ad K s)), xz, K, A, L, aI, aS, M, oL, oC, oV, kS, kM, kC, kV, cO, cA, cT, cE, oP, bK, bB, bL, sT, rE, rO, fL)) :
    wpX_acceptOperand post (xv, xt, xo, xc, xs, xf, xr, xp, xl, (nI n), (nI os.length), (nI (sf_nq os)), (nI (sf_BK K s).length), 1, 1, (K s), (nI s), (nI (sf_ad K s)), xz, K, A, L, aI, aS, M, oL, oC, oV, kS, kM, kC, kV, cO, cA, cT, cE, oP, bK, bB, bL, sT, rE, rO, fL) (nI p) := by
  have a6 := H.2.2.2.2.2.1
  have a7 := H.2.2.2.2.2.2.1
  have a11 := H.2.2.2.2.2.2.2.2.2.2.1
  have al := sf_ad_pr (K := K) p
  have N := sf_npq os
  have hdl : sf_ad K s ≤ sf_hd K s := by unfold sf_hd; omega
  have cl : (nI p).toNatClampNeg = p := nI_clamp (by omega)
  have hv : vp_in (nI p) 96 := vp_in_nI (by omega) (by omega)
  have hn : n + os.length ≤ 96 := by
    have : sf_np os + sf_nq os = os.length := N
    split at a6 <;> omega
  have num : ∀ (hk : K p = 1 ∨ K p = 2), wX_acceptOperand_39 post (nI p) (K p) xv xt xo xc xs xf xr xp xl (nI n) (nI os.length) (nI (sf_nq os)) (nI (sf_BK K s).length) 1 1 (K s) (nI s) (nI (sf_ad K s)) xz K A L aI aS M oL oC oV kS kM kC kV cO cA cT cE oP bK bB bL sT rE rO fL := by
    intro hk
    refine And.intro hv ?_
    rw [cl]
    refine sf_x_emit (by omega) (h1 (hk.imp id Or.inl) _ _ _ _ _ _ _ _ _ _ _ _ _ _ _ _ _ (Or.inr ⟨s, n + 1, false, os, rfl, rfl, rfl, rfl, rfl, rfl, rfl, rfl, rfl, ?_, SBx, hS, ?_⟩))
    · exact sf_CD_agree D fun j hj => ⟨pk_un (by omega), pk_un (by omega), pk_un (by omega), pk_un (by omega)⟩
    · exact sf_ME_num H hp hk hA (fun j hj => ⟨pk_un (by omega), pk_un (by omega), pk_un (by omega)⟩) pk_us pk_us
  refine And.intro hv (nm_r (e' := K p) (by rw [cl]) ?_)
  by_cases k4 : K p = 4
  · refine br_t k4 (sf_x_pushOp (by omega) (nm_r (nI_1 _) (h1 (Or.inr (Or.inr k4)) _ _ _ _ _ _ _ _ _ _ _ _ _ _ _ _ _ (Or.inr ⟨s, n, true, (-1) :: os, rfl, rfl, rfl, ?_, rfl, rfl, rfl, rfl, rfl, D, SBx, sf_SK_push hS, sf_ME_lp H hp k4⟩))))
    show nI (sf_nq os + 1) = nI ((if (-1 : Int32) = -1 then 1 else 0) + sf_nq os)
    rw [if_pos rfl, Nat.add_comm]
  · refine br_f k4 ?_
    by_cases k1 : K p = 1
    · exact br_t k1 (num (Or.inl k1))
    · refine br_f k1 ?_
      by_cases k2 : K p = 2
      · exact br_t k2 (num (Or.inr k2))
      · exact br_f k2 (h0 (by rintro (z | z | z); exact k1 z; exact k2 z; exact k4 z))
theorem sf_x_pushOperator {post : SX → Prop} (D : sf_CD nv c K A cO cA cT cE s) (H : sf_ME nv c K A cO cA cT s p n false os) (hS : sf_SK oP os) (SBx : sf_SB K c bK bB bL (sf_BK K s)) (hc : c ≤ 96) (hp : p < c) (k : K p = 3) (hA : vp_in (A p) 7)
    (h1 : ∀ (xn xq xy xd xe xw xk xj xh : Int32) (cO cA cT cE oP bK bB bL : Nat → Int32), sf_PI nv c K A (p + 1) xn xq xy xd xe xw xk xj xh cO cA cT cE oP bK bB bL → post (xv, xt, xo, xc, xs, xf, xr, xp, xl, xn, xq, xy, xd, xe, xw, xk, xj, xh, xz, K, A, L, aI, aS, M, oL, oC, oV, kS, kM, kC, kV, cO, cA, cT, cE, oP, bK, bB, bL, sT, rE, rO, fL)) :
    wpX_pushOperator post (xv, xt, xo, xc, xs, xf, xr, xp, xl, (nI n), (nI os.length), (nI (sf_nq os)), (nI (sf_BK K s).length), 1, 0, (K s), (nI s), (nI (sf_ad K s)), xz, K, A, L, aI, aS, M, oL, oC, oV, kS, kM, kC, kV, cO, cA, cT, cE, oP, bK, bB, bL, sT, rE, rO, fL) (A p) := by
  have a6 := H.2.2.2.2.2.1
  have a7 := H.2.2.2.2.2.2.1
  have a11 := H.2.2.2.2.2.2.2.2.2.2.1
  have al := sf_ad_pr (K := K) p
  have N := sf_npq os
  have hdl : sf_ad K s ≤ sf_hd K s := by unfold sf_hd; omega
  have hn : n + os.length ≤ 96 := by
    have : sf_np os + sf_nq os = os.length := N
    split at a6 <;> omega
  have hpc := sf_pcop hA
  have R := sf_ro_np hpc os
  unfold wpX_pushOperator
  refine sf_x_prec ?_
  refine sf_x_reduce (sf_pc_le _) hS (by omega) ?_
  intro n' cO' cA' cT' cE' q1 q2 q3 q4
  refine sf_x_pushOp (by omega) (h1 _ _ _ _ _ _ _ _ _ _ _ _ _ _ _ _ _ (Or.inr ⟨s, n', true, A p :: sf_ro (sf_pc (A p)) os, rfl, rfl, rfl, ?_, rfl, rfl, rfl, rfl, rfl, ?_, SBx, ?_, sf_ME_op H hp k hpc q1 (fun j hj => ⟨(q2 j hj).1, (q2 j hj).2.1, (q2 j hj).2.2.1⟩) q3 q4⟩))
  · show nI (sf_nq os) = nI ((if A p = -1 then 1 else 0) + sf_nq (sf_ro (sf_pc (A p)) os))
    rw [if_neg (fun z => by rw [z, sf_pcm1] at hpc; omega), R.2.2, Nat.zero_add]
  · exact sf_CD_agree D fun j hj => q2 j (by omega)
  · refine sf_SK_push ?_
    have : ∀ l : List Int32, sf_SK oP l → sf_SK oP (sf_ro (sf_pc (A p)) l) := by
      intro l
      induction l with
      | nil => intro _; trivial
      | cons a l ih =>
        intro hl
        show sf_SK oP (if sf_pc a < sf_pc (A p) then a :: l else sf_ro (sf_pc (A p)) l)
        split
        · exact hl
        · exact ih hl.2
    exact this os hS
theorem sf_SK_ro {lev : Nat} : ∀ l : List Int32, sf_SK oP l → sf_SK oP (sf_ro lev l) := by
  intro l
  induction l with
  | nil => intro _; trivial
  | cons a l ih =>
    intro hl
    show sf_SK oP (if sf_pc a < lev then a :: l else sf_ro lev l)
    split
    · exact hl
    · exact ih hl.2
theorem sf_x_closeParen {post : Int32 → SX → Prop} (D : sf_CD nv c K A cO cA cT cE s) (H : sf_ME nv c K A cO cA cT s p n false os) (hS : sf_SK oP os) (SBx : sf_SB K c bK bB bL (sf_BK K s)) (hc : c ≤ 96) (hp : p < c) (k : K p = 5)
    (h1 : 0 < sf_nq os → ∀ (xn xq xy xd xe xw xk xj xh : Int32) (cO cA cT cE oP bK bB bL : Nat → Int32), sf_PI nv c K A (p + 1) xn xq xy xd xe xw xk xj xh cO cA cT cE oP bK bB bL → post 1 (xv, xt, xo, xc, xs, xf, xr, xp, xl, xn, xq, xy, xd, xe, xw, xk, xj, xh, xz, K, A, L, aI, aS, M, oL, oC, oV, kS, kM, kC, kV, cO, cA, cT, cE, oP, bK, bB, bL, sT, rE, rO, fL)) (h0 : sf_nq os = 0 → ∀ (xn xq xy xd xe xw xk xj xh : Int32) (cO cA cT cE oP bK bB bL : Nat → Int32), post 0 (xv, xt, xo, xc, xs, xf, xr, xp, xl, xn, xq, xy, xd, xe, xw, xk, xj, xh, xz, K, A, L, aI, aS, M, oL, oC, oV, kS, kM, kC, kV, cO, cA, cT, cE, oP, bK, bB, bL, sT, rE, rO, fL)) :
    wpX_closeParen post (xv, xt, xo, xc, xs, xf, xr, xp, xl, (nI n), (nI os.length), (nI (sf_nq os)), (nI (sf_BK K s).length), 1, 0, (K s), (nI s), (nI (sf_ad K s)), xz, K, A, L, aI, aS, M, oL, oC, oV, kS, kM, kC, kV, cO, cA, cT, cE, oP, bK, bB, bL, sT, rE, rO, fL) := by
  have a5 := H.2.2.2.2.1
  have a6 := H.2.2.2.2.2.1
  have a7 := H.2.2.2.2.2.2.1
  have a11 := H.2.2.2.2.2.2.2.2.2.2.1
  have al := sf_ad_pr (K := K) p
  have N := sf_npq os
  have hdl : sf_ad K s ≤ sf_hd K s := by unfold sf_hd; omega
  have hn : n + os.length ≤ 96 := by
    have : sf_np os + sf_nq os = os.length := N
    split at a6 <;> omega
  rcases Nat.eq_zero_or_pos (sf_nq os) with z | z
  · exact br_t ((sf_eq0 (by omega)).mpr z) (h0 z _ _ _ _ _ _ _ _ _ _ _ _ _ _ _ _ _)
  · obtain ⟨os2, o1, o2⟩ := sf_ro_par os a5 z
    have R := sf_ro_np (lev := 1) (by omega) os
    refine br_f (nI_ne0 z (by omega)) (sf_x_reduce (lev := 1) (by omega) hS (by omega) ?_)
    intro n' cO' cA' cT' cE' q1 q2 q3 q4
    have hq2 : sf_nq os = 1 + sf_nq os2 := by
      rw [← R.2.2, o1]
      show (if (-1 : Int32) = -1 then 1 else 0) + _ = _
      rw [if_pos rfl]
    have hl : (sf_ro 1 os).length = os2.length + 1 := by rw [o1]; rfl
    rw [hl]
    have SK2 : sf_SK oP os2 := by
      have := sf_SK_ro (lev := 1) os hS
      rw [o1] at this; exact this.2
    refine br_f (nI_nle (by omega) (by omega)) (nm_r (nI_pred _) (nm_r (e' := nI (sf_nq os2)) (by rw [sf_s1 z]; exact congrArg nI (by omega)) ?_))
    exact h1 z _ _ _ _ _ _ _ _ _ _ _ _ _ _ _ _ _ (Or.inr ⟨s, n', false, os2, rfl, rfl, rfl, rfl, rfl, rfl, rfl, rfl, rfl, sf_CD_agree D fun j hj => q2 j (by omega), SBx, SK2, sf_ME_rp H hp k o1 (by rw [hl] at q1 ⊢; exact q1) (fun j hj => ⟨(q2 j hj).1, (q2 j hj).2.1, (q2 j hj).2.2.1⟩) q3 q4⟩)
end
end
section
/-! the component: the parse, whole -/
theorem sf_FT_S {K : Nat → Int32} {p : Nat} (h : (sf_bf K p = 9 ∨ sf_bf K p = 10) ∨ sf_bf K p = 11) : sf_FT K p ↔ sf_FS K p := by
  unfold sf_FT
  rw [if_neg (by rcases h with (z | z) | z <;> rw [z] <;> decide), if_neg (by rcases h with (z | z) | z <;> rw [z] <;> decide)]
theorem sf_FT_T {K : Nat → Int32} {p : Nat} (h : sf_b (sf_bf K p) ∨ sf_bf K p = 3 ∨ sf_bf K p = 4) : sf_FT K p ↔ (K p = 1 ∨ K p = 2 ∨ K p = 4) := by
  unfold sf_FT
  rw [if_pos h]
theorem sf_FT_F {K : Nat → Int32} {p : Nat} (h : sf_bf K p = 1 ∨ sf_bf K p = 2 ∨ sf_bf K p = 5) : sf_FT K p ↔ (if K p = 3 then True else if 0 < sf_pr K p then K p = 5 else if sf_g (sf_LS K p) then K p = 9 else sf_FS K p) := by
  unfold sf_FT
  rw [if_neg (by rcases h with z | z | z <;> rw [z] <;> decide), if_pos h]
def sf_FIN (K : Nat → Int32) (c : Nat) : Prop := (sf_bf K c = 1 ∨ sf_bf K c = 2 ∨ sf_bf K c = 5 ∨ sf_bf K c = 11) ∧ sf_pr K c = 0 ∧ sf_BK K c = []
section
variable {xv xt xo xc xs xf xr xp xl xn xq xy xd xe xw xk xj xh xz : Int32} {K A L aI aS M oL oC oV kS kM kC kV cO cA cT cE oP bK bB bL sT rE rO fL : Nat → Int32}
variable {nv c p : Nat}
theorem sf_x_accept {post : Int32 → SX → Prop} (H : sf_PI nv c K A p xn xq xy xd xe xw xk xj xh cO cA cT cE oP bK bB bL) (hc : c ≤ 96) (hp : p < c) (hT : sf_TV nv (K p) (A p))
    (h1 : sf_FT K p → ∀ (xn xq xy xd xe xw xk xj xh : Int32) (cO cA cT cE oP bK bB bL : Nat → Int32), sf_PI nv c K A (p + 1) xn xq xy xd xe xw xk xj xh cO cA cT cE oP bK bB bL → post 1 (xv, xt, xo, xc, xs, xf, xr, xp, xl, xn, xq, xy, xd, xe, xw, xk, xj, xh, xz, K, A, L, aI, aS, M, oL, oC, oV, kS, kM, kC, kV, cO, cA, cT, cE, oP, bK, bB, bL, sT, rE, rO, fL)) (h0 : ¬ sf_FT K p → ∀ (xn xq xy xd xe xw xk xj xh : Int32) (cO cA cT cE oP bK bB bL : Nat → Int32), post 0 (xv, xt, xo, xc, xs, xf, xr, xp, xl, xn, xq, xy, xd, xe, xw, xk, xj, xh, xz, K, A, L, aI, aS, M, oL, oC, oV, kS, kM, kC, kV, cO, cA, cT, cE, oP, bK, bB, bL, sT, rE, rO, fL)) : wpX_accept post (xv, xt, xo, xc, xs, xf, xr, xp, xl, xn, xq, xy, xd, xe, xw, xk, xj, xh, xz, K, A, L, aI, aS, M, oL, oC, oV, kS, kM, kC, kV, cO, cA, cT, cE, oP, bK, bB, bL, sT, rE, rO, fL) (nI p) := by
  have cl : (nI p).toNatClampNeg = p := nI_clamp (by omega)
  have hv : vp_in (nI p) 96 := vp_in_nI (by omega) (by omega)
  refine And.intro hv (nm_r (e' := K p) (by rw [cl]) ?_)
  rcases H with ⟨rfl, rfl, rfl, rfl, rfl, D, SBx, hpr, hbf⟩ | ⟨s, n, w, os, rfl, rfl, rfl, rfl, rfl, rfl, rfl, rfl, rfl, D, SBx, hS, ME⟩
  · have F := sf_FT_S (hbf.imp (fun z => z.1) id)
    refine br_t rfl ?_
    unfold wX_accept_93
    refine sf_x_stmt hc hp (fun _ => D) SBx hpr (fun f => ?_) (fun f => ?_)
    · intro xn xq xy xd xe xw xk xj xh cO cA cT cE oP bK bB bL H
      exact And.intro rfl (h1 (F.mpr f) _ _ _ _ _ _ _ _ _ _ _ _ _ _ _ _ _ H)
    · intro xn xq xy xd xe xw xk xj xh cO cA cT cE oP bK bB bL
      exact And.intro rfl (h0 (fun z => f (F.mp z)) _ _ _ _ _ _ _ _ _ _ _ _ _ _ _ _ _)
  · have b11 := ME.2.2.2.2.2.2.2.2.2.2.1
    have b12 := ME.2.2.2.2.2.2.2.2.2.2.2.1
    have al := sf_pr_le (K := K) p
    refine br_f (by decide) ?_
    cases w with
    | true =>
      have F := sf_FT_T (ME.2.2.2.2.2.2.2.2.2.2.2.2.1 rfl)
      refine br_f (by decide) (sf_x_operand D ME hS SBx hc hp hT.2.1 (fun f => ?_) (fun f => ?_))
      · intro xn xq xy xd xe xw xk xj xh cO cA cT cE oP bK bB bL H
        exact And.intro rfl (h1 (F.mpr f) _ _ _ _ _ _ _ _ _ _ _ _ _ _ _ _ _ H)
      · exact And.intro rfl (h0 (fun z => f (F.mp z)) _ _ _ _ _ _ _ _ _ _ _ _ _ _ _ _ _)
    | false =>
      have F := sf_FT_F (ME.2.2.2.2.2.2.2.2.2.2.2.2.2 rfl)
      refine br_t rfl ?_
      by_cases k3 : K p = 3
      · rw [if_pos k3] at F
        refine br_t k3 (And.intro hv ?_)
        rw [cl]
        refine sf_x_pushOperator D ME hS SBx hc hp k3 (hT.2.2.1 k3) ?_
        intro xn xq xy xd xe xw xk xj xh cO cA cT cE oP bK bB bL H
        exact h1 (F.mpr trivial) _ _ _ _ _ _ _ _ _ _ _ _ _ _ _ _ _ H
      · rw [if_neg k3, b11] at F
        refine br_f k3 ?_
        by_cases k5 : K p = 5
        · refine br_t k5 (sf_x_closeParen D ME hS SBx hc hp k5 (fun z => ?_) (fun z => ?_))
          · rw [if_pos z] at F
            intro xn xq xy xd xe xw xk xj xh cO cA cT cE oP bK bB bL H
            exact And.intro rfl (h1 (F.mpr k5) _ _ _ _ _ _ _ _ _ _ _ _ _ _ _ _ _ H)
          · rw [if_neg (by omega)] at F
            intro xn xq xy xd xe xw xk xj xh cO cA cT cE oP bK bB bL
            refine And.intro rfl (h0 (fun y => ?_) _ _ _ _ _ _ _ _ _ _ _ _ _ _ _ _ _)
            have := sf_FT_5 y k5
            omega
        · refine br_f k5 ?_
          rcases Nat.eq_zero_or_pos (sf_nq os) with z | z
          · rw [if_neg (by omega), b12] at F
            refine br_t ((sf_le0 (by omega)).mpr z) (sf_x_guard (fun g => br_f (by decide) ?_) (fun g => br_t rfl ?_))
            · rw [if_pos g] at F
              by_cases k9 : K p = 9
              · refine br_t k9 ?_
                rw [z]
                refine sf_x_openBlock D ME z g hS SBx hc hp k9 ?_
                intro xn xq xy xd xe xw xk xj xh cO cA cT cE oP bK bB bL H
                exact br_f (by decide) (h1 (F.mpr k9) _ _ _ _ _ _ _ _ _ _ _ _ _ _ _ _ _ H)
              · exact br_f k9 (h0 (fun y => k9 (F.mp y)) _ _ _ _ _ _ _ _ _ _ _ _ _ _ _ _ _)
            · rw [if_neg g] at F
              refine sf_x_endSimple D ME z g hS hc ?_
              intro cO' cA' cT' cE' HD
              have bk : sf_BK K p = sf_BK K s := by
                rw [sf_BK_in ME.1 ME.2.2.2.1]
                refine sf_BK_n g ?_ ?_
                · exact (sf_b1011 ME.2.2.1).2
                · exact (sf_b1011 ME.2.2.1).1
              rw [z, ← bk]
              unfold wX_accept_93
              refine sf_x_stmt hc hp (fun e => HD (Or.inr e)) (by rw [bk]; exact SBx) (by omega) (fun f => ?_) (fun f => ?_)
              · intro xn xq xy xd xe xw xk xj xh cO cA cT cE oP bK bB bL H
                exact And.intro rfl (h1 (F.mpr f) _ _ _ _ _ _ _ _ _ _ _ _ _ _ _ _ _ H)
              · intro xn xq xy xd xe xw xk xj xh cO cA cT cE oP bK bB bL
                exact And.intro rfl (h0 (fun z => f (F.mp z)) _ _ _ _ _ _ _ _ _ _ _ _ _ _ _ _ _)
          · rw [if_pos z] at F
            exact br_f (nI_nle z (by omega)) (h0 (fun y => k5 (F.mp y)) _ _ _ _ _ _ _ _ _ _ _ _ _ _ _ _ _)
theorem sf_x_fin34 {post : Int32 → SX → Prop} (hc : c ≤ 96) (D : sf_CD nv c K A cO cA cT cE c) (h1 : sf_BK K c = [] → ∀ (xn xq xy xd xe xw xk xj xh : Int32) (cO cA cT cE oP bK bB bL : Nat → Int32), xn = nI (sf_ad K c + 1) → sf_CD nv c K A cO cA cT cE c → cO (sf_ad K c) = 0 → post 1 (xv, xt, xo, xc, xs, xf, xr, xp, xl, xn, xq, xy, xd, xe, xw, xk, xj, xh, xz, K, A, L, aI, aS, M, oL, oC, oV, kS, kM, kC, kV, cO, cA, cT, cE, oP, bK, bB, bL, sT, rE, rO, fL)) (h0 : sf_BK K c ≠ [] → ∀ (xn xq xy xd xe xw xk xj xh : Int32) (cO cA cT cE oP bK bB bL : Nat → Int32), post 0 (xv, xt, xo, xc, xs, xf, xr, xp, xl, xn, xq, xy, xd, xe, xw, xk, xj, xh, xz, K, A, L, aI, aS, M, oL, oC, oV, kS, kM, kC, kV, cO, cA, cT, cE, oP, bK, bB, bL, sT, rE, rO, fL)) :
    wX_finish_34 post xv xt xo xc xs xf xr xp xl (nI (sf_ad K c)) xq xy (nI (sf_BK K c).length) xe xw xk xj xh xz K A L aI aS M oL oC oV kS kM kC kV cO cA cT cE oP bK bB bL sT rE rO fL := by
  have al := sf_ad_le (K := K) c
  have bl := sf_BK_len K c
  by_cases z : sf_BK K c = []
  · refine br_t (by rw [z]; decide) (sf_x_emit (by omega) (h1 z _ _ _ _ _ _ _ _ _ _ _ _ _ _ _ _ _ rfl ?_ pk_us))
    exact sf_CD_agree D fun j hj => ⟨pk_un (by omega), pk_un (by omega), pk_un (by omega), pk_un (by omega)⟩
  · exact br_f (nI_nle (List.length_pos_iff.mpr z) (by omega)) (h0 z _ _ _ _ _ _ _ _ _ _ _ _ _ _ _ _ _)
theorem sf_x_finish {post : Int32 → SX → Prop} (H : sf_PI nv c K A c xn xq xy xd xe xw xk xj xh cO cA cT cE oP bK bB bL) (hc : c ≤ 96)
    (h1 : sf_FIN K c → ∀ (xn xq xy xd xe xw xk xj xh : Int32) (cO cA cT cE oP bK bB bL : Nat → Int32), xn = nI (sf_ad K c + 1) → sf_CD nv c K A cO cA cT cE c → cO (sf_ad K c) = 0 → post 1 (xv, xt, xo, xc, xs, xf, xr, xp, xl, xn, xq, xy, xd, xe, xw, xk, xj, xh, xz, K, A, L, aI, aS, M, oL, oC, oV, kS, kM, kC, kV, cO, cA, cT, cE, oP, bK, bB, bL, sT, rE, rO, fL)) (h0 : ¬ sf_FIN K c → ∀ (xn xq xy xd xe xw xk xj xh : Int32) (cO cA cT cE oP bK bB bL : Nat → Int32), post 0 (xv, xt, xo, xc, xs, xf, xr, xp, xl, xn, xq, xy, xd, xe, xw, xk, xj, xh, xz, K, A, L, aI, aS, M, oL, oC, oV, kS, kM, kC, kV, cO, cA, cT, cE, oP, bK, bB, bL, sT, rE, rO, fL)) : wpX_finish post (xv, xt, xo, xc, xs, xf, xr, xp, xl, xn, xq, xy, xd, xe, xw, xk, xj, xh, xz, K, A, L, aI, aS, M, oL, oC, oV, kS, kM, kC, kV, cO, cA, cT, cE, oP, bK, bB, bL, sT, rE, rO, fL) := by
  rcases H with ⟨rfl, rfl, rfl, rfl, rfl, D, SBx, hpr, hbf⟩ | ⟨s, n, w, os, rfl, rfl, rfl, rfl, rfl, rfl, rfl, rfl, rfl, D, SBx, hS, ME⟩
  · refine br_t rfl (sf_x_fin34 hc D (fun z => h1 ⟨?_, hpr, z⟩) (fun z => h0 (fun f => z f.2.2)))
    rcases hbf with y | y
    · exact absurd z y.2
    · exact Or.inr (Or.inr (Or.inr y))
  · have b11 := ME.2.2.2.2.2.2.2.2.2.2.1
    have al := sf_pr_le (K := K) c
    refine br_f (by decide) ?_
    cases w with
    | true =>
      refine br_f (by decide) (h0 (fun f => ?_) _ _ _ _ _ _ _ _ _ _ _ _ _ _ _ _ _)
      have := ME.2.2.2.2.2.2.2.2.2.2.2.2.1 rfl
      rcases f.1 with y | y | y | y <;> rw [y] at this <;> revert this <;> decide
    | false =>
      have b14 := ME.2.2.2.2.2.2.2.2.2.2.2.2.2 rfl
      refine br_t rfl ?_
      rcases Nat.eq_zero_or_pos (sf_nq os) with z | z
      · refine br_f (by rw [z]; decide) (sf_x_guard (fun g => br_f (by decide) (h0 (fun f => ?_) _ _ _ _ _ _ _ _ _ _ _ _ _ _ _ _ _)) (fun g => br_t rfl ?_))
        · have := f.2.2
          rw [sf_BK_in ME.1 ME.2.2.2.1, sf_BK_g g] at this; exact nomatch this
        · refine sf_x_endSimple D ME z g hS hc ?_
          intro cO' cA' cT' cE' HD
          have bk : sf_BK K c = sf_BK K s := by
            rw [sf_BK_in ME.1 ME.2.2.2.1]
            exact sf_BK_n g (sf_b1011 ME.2.2.1).2 (sf_b1011 ME.2.2.1).1
          rw [← bk]
          refine sf_x_fin34 hc (HD (Or.inl rfl)) (fun y => h1 ⟨?_, by omega, y⟩) (fun y => h0 (fun f => y f.2.2))
          rcases b14 with q | q | q
          · exact Or.inl q
          · exact Or.inr (Or.inl q)
          · exact Or.inr (Or.inr (Or.inl q))
      · exact br_t ((sf_0lt (by omega)).mpr z) (h0 (fun f => by have := f.2.1; omega) _ _ _ _ _ _ _ _ _ _ _ _ _ _ _ _ _)
theorem sf_x_parse32 {post : Int32 → SX → Prop} (hc : c ≤ 96) (hT : ∀ i, i < c → sf_TV nv (K i) (A i))
    (hb : ∀ q, q < c → ¬ sf_FT K q → (∀ i, i < q → sf_FT K i) → ∀ (xn xq xy xd xe xw xk xj xh : Int32) (cO cA cT cE oP bK bB bL : Nat → Int32), post (nI q) (xv, xt, xo, (nI c), xs, xf, xr, xp, xl, xn, xq, xy, xd, xe, xw, xk, xj, xh, xz, K, A, L, aI, aS, M, oL, oC, oV, kS, kM, kC, kV, cO, cA, cT, cE, oP, bK, bB, bL, sT, rE, rO, fL)) (hf : ¬ sf_FIN K c → (∀ i, i < c → sf_FT K i) → ∀ (xn xq xy xd xe xw xk xj xh : Int32) (cO cA cT cE oP bK bB bL : Nat → Int32), post (nI c) (xv, xt, xo, (nI c), xs, xf, xr, xp, xl, xn, xq, xy, xd, xe, xw, xk, xj, xh, xz, K, A, L, aI, aS, M, oL, oC, oV, kS, kM, kC, kV, cO, cA, cT, cE, oP, bK, bB, bL, sT, rE, rO, fL))
    (hs : sf_FIN K c → (∀ i, i < c → sf_FT K i) → ∀ (xn xq xy xd xe xw xk xj xh : Int32) (cO cA cT cE oP bK bB bL : Nat → Int32), xn = nI (sf_ad K c + 1) → sf_CD nv c K A cO cA cT cE c → cO (sf_ad K c) = 0 → post (-1) (xv, xt, xo, (nI c), xs, xf, xr, xp, xl, xn, xq, xy, xd, xe, xw, xk, xj, xh, xz, K, A, L, aI, aS, M, oL, oC, oV, kS, kM, kC, kV, cO, cA, cT, cE, oP, bK, bB, bL, sT, rE, rO, fL)) :
    ∀ (m p n : Nat), p + m = c → m < n → (∀ i, i < p → sf_FT K i) → ∀ (xn xq xy xd xe xw xk xj xh : Int32) (cO cA cT cE oP bK bB bL : Nat → Int32), sf_PI nv c K A p xn xq xy xd xe xw xk xj xh cO cA cT cE oP bK bB bL → wX_parse_32 post n (nI p) xv xt xo (nI c) xs xf xr xp xl xn xq xy xd xe xw xk xj xh xz K A L aI aS M oL oC oV kS kM kC kV cO cA cT cE oP bK bB bL sT rE rO fL := by
  intro m
  induction m with
  | zero =>
    intro p n hp hn hF
    obtain ⟨n, rfl⟩ : ∃ k, n = k + 1 := ⟨n - 1, by omega⟩
    have : p = c := by omega
    subst this
    intro xn xq xy xd xe xw xk xj xh cO cA cT cE oP bK bB bL H
    refine br_t (nI_le (Nat.le_refl _) (by omega)) (sf_x_finish H hc (fun f => ?_) (fun f => ?_))
    · intro xn xq xy xd xe xw xk xj xh cO cA cT cE oP bK bB bL q1 q2 q3
      exact br_f (by decide) (hs f hF _ _ _ _ _ _ _ _ _ _ _ _ _ _ _ _ _ q1 q2 q3)
    · intro xn xq xy xd xe xw xk xj xh cO cA cT cE oP bK bB bL
      exact br_t rfl (hf f hF _ _ _ _ _ _ _ _ _ _ _ _ _ _ _ _ _)
  | succ m ih =>
    intro p n hp hn hF
    obtain ⟨n, rfl⟩ : ∃ k, n = k + 1 := ⟨n - 1, by omega⟩
    intro xn xq xy xd xe xw xk xj xh cO cA cT cE oP bK bB bL H
    refine br_f (nI_ge (by omega) (by omega)) (sf_x_accept H hc (by omega) (hT p (by omega)) (fun f => ?_) (fun f => ?_))
    · intro xn xq xy xd xe xw xk xj xh cO cA cT cE oP bK bB bL H'
      refine br_f (by decide) (nm_r (nI_1 p) (ih (p + 1) n (by omega) (by omega) (fun i hi => ?_) _ _ _ _ _ _ _ _ _ _ _ _ _ _ _ _ _ H'))
      rcases Nat.lt_or_ge i p with z | z
      · exact hF i z
      · have : i = p := by omega
        subst this; exact f
    · intro xn xq xy xd xe xw xk xj xh cO cA cT cE oP bK bB bL
      exact br_t rfl (hb p (by omega) f hF _ _ _ _ _ _ _ _ _ _ _ _ _ _ _ _ _)
theorem sf_x_parse {post : Int32 → SX → Prop} (hc : c ≤ 96) (hT : ∀ i, i < c → sf_TV nv (K i) (A i))
    (hb : ∀ q, q < c → ¬ sf_FT K q → (∀ i, i < q → sf_FT K i) → ∀ (xn xq xy xd xe xw xk xj xh : Int32) (cO cA cT cE oP bK bB bL : Nat → Int32), post (nI q) (xv, xt, xo, (nI c), xs, xf, xr, xp, xl, xn, xq, xy, xd, xe, xw, xk, xj, xh, xz, K, A, L, aI, aS, M, oL, oC, oV, kS, kM, kC, kV, cO, cA, cT, cE, oP, bK, bB, bL, sT, rE, rO, fL)) (hf : ¬ sf_FIN K c → (∀ i, i < c → sf_FT K i) → ∀ (xn xq xy xd xe xw xk xj xh : Int32) (cO cA cT cE oP bK bB bL : Nat → Int32), post (nI c) (xv, xt, xo, (nI c), xs, xf, xr, xp, xl, xn, xq, xy, xd, xe, xw, xk, xj, xh, xz, K, A, L, aI, aS, M, oL, oC, oV, kS, kM, kC, kV, cO, cA, cT, cE, oP, bK, bB, bL, sT, rE, rO, fL))
    (hs : sf_FIN K c → (∀ i, i < c → sf_FT K i) → ∀ (xn xq xy xd xe xw xk xj xh : Int32) (cO cA cT cE oP bK bB bL : Nat → Int32), xn = nI (sf_ad K c + 1) → sf_CD nv c K A cO cA cT cE c → cO (sf_ad K c) = 0 → post (-1) (xv, xt, xo, (nI c), xs, xf, xr, xp, xl, xn, xq, xy, xd, xe, xw, xk, xj, xh, xz, K, A, L, aI, aS, M, oL, oC, oV, kS, kM, kC, kV, cO, cA, cT, cE, oP, bK, bB, bL, sT, rE, rO, fL)) : wpX_parse post (xv, xt, xo, (nI c), xs, xf, xr, xp, xl, xn, xq, xy, xd, xe, xw, xk, xj, xh, xz, K, A, L, aI, aS, M, oL, oC, oV, kS, kM, kC, kV, cO, cA, cT, cE, oP, bK, bB, bL, sT, rE, rO, fL) := by
  refine ⟨c + 1, sf_x_parse32 hc hT hb hf hs c 0 (c + 1) (by omega) (by omega) (fun i hi => absurd hi (by omega)) _ _ _ _ _ _ _ _ _ _ _ _ _ _ _ _ _ (Or.inl ⟨rfl, rfl, rfl, rfl, rfl, ?_, trivial, rfl, Or.inr rfl⟩)⟩
  exact ⟨fun i hi => absurd hi (by omega), fun i hi => absurd hi (by omega), fun i hi => absurd hi (by omega), fun i hi => absurd hi (by omega), fun i hi => absurd hi (by omega), fun i hi => absurd hi (by omega), Or.inl rfl⟩
end
/-- compiled -/
def sf_CM (nv c : Nat) (K A : Nat → Int32) (xn : Int32) (cO cA cT cE : Nat → Int32) : Prop :=
  xn = nI (sf_ad K c + 1) ∧ (∀ i, i < c → sf_FT K i) ∧ sf_BK K c = [] ∧ sf_CD nv c K A cO cA cT cE c ∧ cO (sf_ad K c) = 0
section
variable {yv yt yo yc ys yf yp yr : Int32} {K A L aI aS M oC oV kS kM kC kV wK wV wS wL : Nat → Int32}
theorem sf_y_compile7 {post : Int32 → SY → Prop} {c : Nat} (hc : c ≤ 96)
    (hb : ∀ q, q < c → ¬ sf_FT K q → (∀ i, i < q → sf_FT K i) → post (-3) (yv, yt, yo, (nI c), ys, (nI q), yp, yr, K, A, L, aI, aS, M, oC, oV, kS, kM, kC, kV, wK, wV, wS, wL)) (hf : ¬ sf_FIN K c → (∀ i, i < c → sf_FT K i) → post (-3) (yv, yt, yo, (nI c), ys, (nI c), yp, yr, K, A, L, aI, aS, M, oC, oV, kS, kM, kC, kV, wK, wV, wS, wL)) (hs : sf_FIN K c → (∀ i, i < c → sf_FT K i) → post 0 (yv, yt, yo, (nI c), 1, yf, yp, yr, K, A, L, aI, aS, M, oC, oV, kS, kM, kC, kV, wK, wV, wS, wL)) :
    ∀ (m p n : Nat), p + m = c → m < n → (∀ i, i < p → sf_FT K i) → wY_compile_7 post yv yt yo (nI c) ys yf yp yr K A L aI aS M oC oV kS kM kC kV wK wV wS wL n (nI p) := by
  intro m
  induction m with
  | zero =>
    intro p n hp hn hF
    obtain ⟨n, rfl⟩ : ∃ k, n = k + 1 := ⟨n - 1, by omega⟩
    have : p = c := by omega
    subst this
    have F0 : (¬ (sf_bf K p = 1 ∨ sf_bf K p = 2 ∨ sf_bf K p = 5 ∨ sf_bf K p = 11)) → wY_compile_87 post 0 yv yt yo (nI p) ys yf yp yr K A L aI aS M oC oV kS kM kC kV wK wV wS wL := fun z => br_t rfl (hf (fun f => z f.1) hF)
    have F1 : (sf_bf K p = 1 ∨ sf_bf K p = 2 ∨ sf_bf K p = 5 ∨ sf_bf K p = 11) → wY_compile_82 post yv yt yo (nI p) ys yf yp yr K A L aI aS M oC oV kS kM kC kV wK wV wS wL := by
      intro z
      have al := sf_pr_le (K := K) p
      refine br_f (by decide) (sf_y_parens hc (fun i hi h5 => sf_FT_5 (hF i hi) h5) ?_)
      rcases Nat.eq_zero_or_pos (sf_pr K p) with y | y
      · refine br_f (by rw [y]; decide) (sf_y_opener hc ?_)
        cases hbk : sf_BK K p with
        | nil =>
          have e : (sf_OB K p)[0]? = none := by unfold sf_OB; rw [hbk]; rfl
          rw [e]
          exact br_t sf_n1lt (hs ⟨z, y, hbk⟩ hF)
        | cons x B =>
          have e : (sf_OB K p)[0]? = some x.1 := by unfold sf_OB; rw [hbk]; rfl
          rw [e]
          have E := sf_EN_BK K p
          rw [hbk] at E
          have e1 := E.1
          have e2 := E.2.1
          exact br_f (nI_pos (by omega)) (hf (fun f => by have := f.2.2; rw [hbk] at this; exact nomatch this) hF)
      · exact br_t ((sf_0lt (by omega)).mpr y) (hf (fun f => by have := f.2.1; omega) hF)
    have F60 : wY_compile_60 post (sf_bf K p) yv yt yo (nI p) ys yf yp yr K A L aI aS M oC oV kS kM kC kV wK wV wS wL :=
      br_c (fun h => F1 (Or.inl h)) fun n1 => br_c (fun h => F1 (Or.inr (Or.inl h))) fun n2 => br_c (fun h => F1 (Or.inr (Or.inr (Or.inl h)))) fun n5 => br_c (fun h => F1 (Or.inr (Or.inr (Or.inr h)))) fun n11 => F0 (by rintro (h | h | h | h); exact n1 h; exact n2 h; exact n5 h; exact n11 h)
    refine br_t (nI_le (Nat.le_refl _) (by omega)) ?_
    rcases Nat.eq_zero_or_pos p with z | z
    · subst z
      exact br_t (by decide) F60
    · refine br_f (nI_nle z (by omega)) ?_
      rw [sf_s1 z]
      refine And.intro (vp_in_nI (by omega) (by omega)) ?_
      rw [nI_clamp (n := p - 1) (by omega)]
      have e : sf_bf K p = K (p - 1) := if_neg (by omega)
      rw [e] at F60
      exact F60
  | succ m ih =>
    intro p n hp hn hF
    obtain ⟨n, rfl⟩ : ∃ k, n = k + 1 := ⟨n - 1, by omega⟩
    refine br_f (nI_ge (by omega) (by omega)) (sf_y_fits hc (by omega) (fun i hi h5 => sf_FT_5 (hF i hi) h5) (fun f => br_f (by decide) (nm_r (nI_1 p) (ih (p + 1) n (by omega) (by omega) (fun i hi => ?_)))) (fun f => br_t rfl (hb p (by omega) f hF)))
    rcases Nat.lt_or_ge i p with z | z
    · exact hF i z
    · have : i = p := by omega
      subst this; exact f
end
end
section
/-! labels by the machine -/
def sf_oL : List Int32 → Int32
  | [] => 0
  | v :: vs => sf_oL vs ||| v
theorem sf_or0 (x : Int32) : x ||| 0 = x := b_ext fun i _ => by rw [b_or, b_0, Bool.or_false]
theorem sf_0or (x : Int32) : 0 ||| x = x := b_ext fun i _ => by rw [b_or, b_0, Bool.false_or]
theorem sf_ora (x y z : Int32) : (x ||| y) ||| z = x ||| (y ||| z) := b_ext fun i _ => by rw [b_or, b_or, b_or, b_or, Bool.or_assoc]
theorem sf_orc (x y : Int32) : x ||| y = y ||| x := b_ext fun i _ => by rw [b_or, b_or, Bool.or_comm]
def sf_fO : sf_F := fun _ a b => a ||| b
theorem sf_oL_po (o : Int32) (vs : List Int32) : sf_oL (sf_po sf_fO o vs) = sf_oL vs := by
  match vs with
  | [] => exact sf_or0 _
  | [x] =>
    show (0 : Int32) ||| (0 ||| x) = 0 ||| x
    rw [sf_0or]
  | b :: a :: t =>
    show sf_oL t ||| (a ||| b) = (sf_oL t ||| a) ||| b
    rw [sf_ora]
theorem sf_oL_rv {lev : Nat} : ∀ (os vs : List Int32), sf_oL (sf_rv sf_fO lev os vs) = sf_oL vs := by
  intro os
  induction os with
  | nil => intro vs; rfl
  | cons o os ih =>
    intro vs
    show sf_oL (if sf_pc o < lev then vs else sf_rv sf_fO lev os (sf_po sf_fO o vs)) = _
    split
    · rfl
    · rw [ih, sf_oL_po]
theorem sf_oL_st {t : Int32 × Int32} {w w' : Bool} {vs vs' os os' : List Int32} (h : sf_st sf_fO t (w, vs, os) = some (w', vs', os')) : sf_oL vs' = if t.1 = 1 then sf_oL vs ||| t.2 else sf_oL vs := by
  obtain ⟨_, c | c | c | c⟩ := sf_st_inv h
  · have := congrArg (fun z : sf_S => z.2.1) c.2.2
    dsimp only at this
    rw [this, if_neg (by rw [c.2.1]; decide)]
  · have := congrArg (fun z : sf_S => z.2.1) c.2.2
    dsimp only at this
    rw [this, if_pos c.2.1]; rfl
  · have := congrArg (fun z : sf_S => z.2.1) c.2.2
    dsimp only at this
    rw [this, if_neg (by rw [c.2.1]; decide), sf_oL_rv]
  · have := congrArg (fun z : sf_S => z.2.1) c.2.2
    dsimp only at this
    rw [this, if_neg (by rw [c.2.1]; decide), sf_oL_rv]
theorem sf_oL_rn {L K A : Nat → Int32} : ∀ (m i : Nat) (w w' : Bool) (vs vs' os os' : List Int32), sf_rn sf_fO (sf_tk (fun _ => 0) (fun x => L x.toNatClampNeg) K A) i m (w, vs, os) = some (w', vs', os') → sf_oL vs' = sf_xf L K A i m (sf_oL vs) := by
  intro m
  induction m with
  | zero =>
    intro i w w' vs vs' os os' h
    have := congrArg (fun z : sf_S => z.2.1) (Option.some.inj h)
    dsimp only at this
    rw [← this]; rfl
  | succ m ih =>
    intro i w w' vs vs' os os' h
    rw [sf_rn_s] at h
    cases e : sf_st sf_fO (sf_tk (fun _ => 0) (fun x => L x.toNatClampNeg) K A i) (w, vs, os) with
    | none => rw [e] at h; exact nomatch h
    | some s1 =>
      obtain ⟨w1, vs1, os1⟩ := s1
      rw [e] at h
      have I := ih (i + 1) w1 w' vs1 vs' os1 os' h
      rw [I, sf_oL_st e]
      show _ = sf_xf L K A (i + 1) m (if K i = 2 then sf_oL vs ||| L (A i).toNatClampNeg else sf_oL vs)
      congr 1
      unfold sf_tk
      dsimp only
      by_cases k2 : K i = 2
      · rw [if_pos k2, if_pos rfl, if_neg (by rw [k2]; decide), if_pos k2, if_pos k2]
      · rw [if_neg k2, if_neg k2]
        by_cases k1 : K i = 1
        · rw [if_pos k1, if_pos k1, sf_or0, if_neg k2]
        · rw [if_neg k1, if_neg k2]
/-- the label that the code of an expression pushes is the reference's -/
theorem sf_EX_lab {nv c s a b : Nat} {L K A cO cA : Nat → Int32} (h : sf_EX nv K A cO cA s (sf_xe K c s) a b) : sf_cr sf_fO (fun _ => 0) (fun x => L x.toNatClampNeg) cO cA a (b - a) [] = [sf_xl L K A c s] := by
  obtain ⟨v, h1, h2⟩ := h.2.2 sf_fO (fun _ => 0) (fun x => L x.toNatClampNeg)
  rw [h2]
  cases e : sf_rn sf_fO (sf_tk (fun _ => 0) (fun x => L x.toNatClampNeg) K A) (s + 1) (sf_xe K c s - (s + 1)) (true, [], [-1]) with
  | none => rw [e] at h1; exact nomatch h1
  | some s1 =>
    obtain ⟨w1, vs1, os1⟩ := s1
    rw [e] at h1
    have q1 := sf_oL_rn _ _ _ _ _ _ _ _ e
    have q2 := sf_oL_st (show sf_st sf_fO (5, 0) (w1, vs1, os1) = some (false, [v], []) from h1)
    rw [if_neg (by decide), q1] at q2
    have q3 : sf_oL [v] = v := sf_0or v
    rw [q3] at q2
    rw [q2]; rfl
/-! contexts -/
def sf_cx (L K A : Nat → Int32) (c : Nat) : List Nat → Int32
  | [] => 0
  | o :: B => sf_cx L K A c B ||| sf_xl L K A c o
theorem sf_fj_cx {L K A : Nat → Int32} {c : Nat} : ∀ (B : List Nat) (acc : Int32), sf_fj L K A c acc B = sf_cx L K A c B ||| acc := by
  intro B
  induction B with
  | nil => intro acc; exact (sf_0or acc).symm
  | cons o B ih =>
    intro acc
    show sf_fj L K A c (acc ||| sf_xl L K A c o) B = (sf_cx L K A c B ||| sf_xl L K A c o) ||| acc
    rw [ih, sf_ora, sf_orc acc]
theorem sf_fw_cx {L K A : Nat → Int32} {c p : Nat} : sf_fw L K A c p = sf_cx L K A c (sf_OB K p) ||| sf_xl L K A c p := sf_fj_cx _ _
def sf_SR (L K A cE rE rO : Nat → Int32) (c : Nat) : List Nat → Prop
  | [] => True
  | o :: B => rE B.length = cE (sf_ti K c o) ∧ rO B.length = sf_cx L K A c B ∧ sf_SR L K A cE rE rO c B
theorem sf_SR_up {L K A cE rE rO rE' rO' : Nat → Int32} {c : Nat} : ∀ (B : List Nat), (∀ j, j < B.length → rE' j = rE j ∧ rO' j = rO j) → sf_SR L K A cE rE rO c B → sf_SR L K A cE rE' rO' c B := by
  intro B
  induction B with
  | nil => intro _ _; trivial
  | cons x B ih =>
    intro h S
    have q := h B.length (by simp)
    exact ⟨by rw [q.1]; exact S.1, by rw [q.2]; exact S.2.1, ih (fun j hj => h j (by simp only [List.length_cons]; omega)) S.2.2⟩
/-- an open statement is closed at some q -/
theorem sf_close {K : Nat → Int32} {o p : Nat} (ho : ∃ x, x ∈ sf_BK K p ∧ x.1 = o) : ∀ (m : Nat), (∃ x, x ∈ sf_BK K (p + m) ∧ x.1 = o) ∨ (∃ q, p ≤ q ∧ q < p + m ∧ K q = 11 ∧ ∃ s B, sf_BK K q = (o, s) :: B) := by
  intro m
  induction m with
  | zero => exact Or.inl ho
  | succ m ih =>
    rcases ih with ⟨x, hx, hxs⟩ | ⟨q, q1, q2, q3⟩
    · rw [← Nat.add_assoc]
      by_cases g : sf_g (K (p + m))
      · exact Or.inl ⟨x, by rw [sf_BK_g g]; exact List.mem_cons_of_mem _ hx, hxs⟩
      · by_cases e11 : K (p + m) = 11
        · cases e : sf_BK K (p + m) with
          | nil => rw [e] at hx; exact nomatch hx
          | cons y B =>
            rw [e] at hx
            rcases List.mem_cons.mp hx with z | z
            · subst z
              refine Or.inr ⟨p + m, by omega, by omega, e11, x.2, B, ?_⟩
              rw [e, ← hxs]
            · exact Or.inl ⟨x, by rw [sf_BK_11 e11, e]; exact z, hxs⟩
        · by_cases e10 : K (p + m) = 10
          · cases e : sf_BK K (p + m) with
            | nil => rw [e] at hx; exact nomatch hx
            | cons y B =>
              rw [e] at hx
              rcases List.mem_cons.mp hx with z | z
              · subst z
                exact Or.inl ⟨(x.1, p + m), by rw [sf_BK_10 (o := x.1) (s := x.2) e10 e]; simp, hxs⟩
              · exact Or.inl ⟨x, by rw [sf_BK_10 (o := y.1) (s := y.2) e10 e]; exact List.mem_cons_of_mem _ z, hxs⟩
          · exact Or.inl ⟨x, by rw [sf_BK_n g e11 e10]; exact hx, hxs⟩
    · exact Or.inr ⟨q, q1, by omega, q3⟩
section
variable {xv xt xo xc xs xf xr xp xl xn xq xy xd xe xw xk xj xh xz : Int32} {K A L aI aS M oL oC oV kS kM kC kV cO cA cT cE oP bK bB bL sT rE rO fL : Nat → Int32}
theorem sf_x_pop {post : Int32 → SX → Prop} {st : List Int32} (hl : st.length ≤ 128) (hs : sf_SK sT st) (h : sf_SK sT st.tail → post (st.headD 0) (xv, xt, xo, xc, xs, xf, xr, xp, xl, xn, xq, xy, xd, xe, xw, xk, xj, xh, (nI st.tail.length), K, A, L, aI, aS, M, oL, oC, oV, kS, kM, kC, kV, cO, cA, cT, cE, oP, bK, bB, bL, sT, rE, rO, fL)) : wpX_pop post (xv, xt, xo, xc, xs, xf, xr, xp, xl, xn, xq, xy, xd, xe, xw, xk, xj, xh, (nI st.length), K, A, L, aI, aS, M, oL, oC, oV, kS, kM, kC, kV, cO, cA, cT, cE, oP, bK, bB, bL, sT, rE, rO, fL) := by
  cases st with
  | nil => exact br_f (by decide) (h trivial)
  | cons x t =>
    have hl' : t.length + 1 ≤ 128 := hl
    have e : nI (x :: t).length - 1 = nI t.length := nI_pred _
    refine br_t ((sf_0lt (by show t.length + 1 < _; omega)).mpr (by show 0 < t.length + 1; omega)) (nm_r e (And.intro (vp_in_nI (by omega) (by omega)) ?_))
    rw [nI_clamp (n := t.length) (by omega), hs.1]
    exact h hs.2
theorem sf_x_push {post : SX → Prop} {st : List Int32} {v : Int32} (hl : st.length < 128) (hs : sf_SK sT st) (h : ∀ sT, sf_SK sT (v :: st) → post (xv, xt, xo, xc, xs, xf, xr, xp, xl, xn, xq, xy, xd, xe, xw, xk, xj, xh, (nI (v :: st).length), K, A, L, aI, aS, M, oL, oC, oV, kS, kM, kC, kV, cO, cA, cT, cE, oP, bK, bB, bL, sT, rE, rO, fL)) : wpX_push post (xv, xt, xo, xc, xs, xf, xr, xp, xl, xn, xq, xy, xd, xe, xw, xk, xj, xh, (nI st.length), K, A, L, aI, aS, M, oL, oC, oV, kS, kM, kC, kV, cO, cA, cT, cE, oP, bK, bB, bL, sT, rE, rO, fL) v :=
  br_f (nI_ge (b := 128) hl (by omega)) (And.intro (vp_in_nI hl (by omega)) (nm_r (e' := upd sT st.length v) (by rw [nI_clamp (by omega)]) (nm_r (nI_1 _) (h _ (sf_SK_push hs)))))
theorem sf_x_step {post : SX → Prop} {st : List Int32} {op ar : Int32} (h8 : op = 2 → vp_in ar 8) (hl : st.length < 128) (hs : sf_SK sT st) (h : ∀ sT, sf_SK sT (sf_ci sf_fO (fun _ => 0) (fun x => L x.toNatClampNeg) op ar st) → post (xv, xt, xo, xc, xs, xf, xr, xp, xl, xn, xq, xy, xd, xe, xw, xk, xj, xh, (nI (sf_ci sf_fO (fun _ => 0) (fun x => L x.toNatClampNeg) op ar st).length), K, A, L, aI, aS, M, oL, oC, oV, kS, kM, kC, kV, cO, cA, cT, cE, oP, bK, bB, bL, sT, rE, rO, fL)) : wpX_stepLabels post (xv, xt, xo, xc, xs, xf, xr, xp, xl, xn, xq, xy, xd, xe, xw, xk, xj, xh, (nI st.length), K, A, L, aI, aS, M, oL, oC, oV, kS, kM, kC, kV, cO, cA, cT, cE, oP, bK, bB, bL, sT, rE, rO, fL) op ar := by
  unfold sf_ci at h
  by_cases a : op = 1
  · rw [if_pos a] at h
    exact br_t a (sf_x_push hl hs h)
  · rw [if_neg a] at h
    refine br_f a ?_
    by_cases b : op = 2
    · rw [if_pos b] at h
      exact br_t b (And.intro (h8 b) (sf_x_push hl hs h))
    · rw [if_neg b] at h
      refine br_f b ?_
      by_cases d : op = 3
      · rw [if_pos d] at h
        have l1 : st.tail.length = st.length - 1 := List.length_tail
        have l2 : st.tail.tail.length = st.tail.length - 1 := List.length_tail
        refine br_t d (sf_x_pop (by omega) hs fun s1 => sf_x_pop (by omega) s1 fun s2 => ?_)
        exact sf_x_push (by omega) s2 h
      · rw [if_neg d] at h
        exact br_f d (h sT hs)
end
end
section
/-! the component: the analysis of the code -/
def sf_NC (rE : Nat → Int32) (k j : Nat) : Prop := k = 0 ∨ rE (k - 1) ≠ nI j
section
variable {xv xt xo xc xs xf xr xp xl xn xq xy xd xe xw xk xj xh xz : Int32} {K A L aI aS M oL oC oV kS kM kC kV cO cA cT cE oP bK bB bL sT rE rO fL : Nat → Int32}
variable {nv c nn k a n : Nat}
theorem sf_x_anI {post : SX → Prop} {x2 : Int32} (ha : a < nn) (hn : nn ≤ 128) (hk : k ≤ 96) (nc : sf_NC rE k a) (h : wX_analyse_61 post (wX_analyse_11 post n) (nI k) x2 (nI a) xv xt xo xc xs xf xr xp xl (nI nn) xq xy xd xe xw xk xj xh xz K A L aI aS M oL oC oV kS kM kC kV cO cA cT cE oP bK bB bL sT rE rO fL) : wX_analyse_11 post (n + 1) (nI k) x2 (nI a) xv xt xo xc xs xf xr xp xl (nI nn) xq xy xd xe xw xk xj xh xz K A L aI aS M oL oC oV kS kM kC kV cO cA cT cE oP bK bB bL sT rE rO fL := by
  refine br_f (nI_ge ha (by omega)) ⟨1, ?_⟩
  rcases Nat.eq_zero_or_pos k with z | z
  · subst z
    exact br_t (by decide) h
  · have e := sf_s1 z
    have nc' : rE (k - 1) ≠ nI a := by
      rcases nc with y | y
      · omega
      · exact y
    exact br_f (nI_nle z (by omega)) (And.intro (by rw [e]; exact vp_in_nI (by omega) (by omega)) (br_f (by rw [e, nI_clamp (n := k - 1) (by omega)]; exact nc') h))
theorem sf_x_anL {post : SX → Prop} {x2 y : Int32} (ha : a < nn) (hn : nn ≤ 128) (hk : k < 96) (hr : rE k = nI a) (ho : rO k = y) (h : wX_analyse_11 post n (nI k) y (nI a) xv xt xo xc xs xf xr xp xl (nI nn) xq xy xd xe xw xk xj xh xz K A L aI aS M oL oC oV kS kM kC kV cO cA cT cE oP bK bB bL sT rE rO fL) : wX_analyse_11 post n (nI (k + 1)) x2 (nI a) xv xt xo xc xs xf xr xp xl (nI nn) xq xy xd xe xw xk xj xh xz K A L aI aS M oL oC oV kS kM kC kV cO cA cT cE oP bK bB bL sT rE rO fL := by
  cases n with
  | zero => exact h
  | succ n =>
    have h2 := (show (nI nn ≤ nI a → post (xv, xt, xo, xc, xs, xf, xr, xp, xl, (nI nn), xq, xy, xd, xe, xw, xk, xj, xh, 0, K, A, L, aI, aS, M, oL, oC, oV, kS, kM, kC, kV, cO, cA, cT, cE, oP, bK, bB, bL, sT, rE, rO, fL)) ∧ (¬ nI nn ≤ nI a → ∃ n22 : Nat, wX_analyse_22 post (wX_analyse_11 post n) (nI a) xv xt xo xc xs xf xr xp xl (nI nn) xq xy xd xe xw xk xj xh xz K A L aI aS M oL oC oV kS kM kC kV cO cA cT cE oP bK bB bL sT rE rO fL n22 (nI k) y (nI k)) from h).2 (nI_ge ha (by omega))
    obtain ⟨n22, h3⟩ := h2
    have e : nI (k + 1) - 1 = nI k := nI_pred k
    have cl : (nI (k + 1) - 1).toNatClampNeg = k := by rw [e]; exact nI_clamp (by omega)
    have hv : vp_in (nI (k + 1) - 1) 96 := by rw [e]; exact vp_in_nI (by omega) (by omega)
    exact br_f (nI_ge ha (by omega)) ⟨n22 + 1, br_f (nI_nle (by omega) (by omega)) (And.intro hv (br_t (by rw [cl]; exact hr) (nm_r e (And.intro hv (nm_r (e' := y) (by rw [cl]; exact ho) (nm_r (pk_m1 k) h3))))))⟩
theorem sf_x_an1 {post : SX → Prop} {x2 : Int32} {st : List Int32} (ha : a < nn) (hn : nn ≤ 128) (hk : k ≤ 96) (nc : sf_NC rE k a) (h6 : cO a ≠ 6) (h7 : cO a ≠ 7) (h9 : cO a ≠ 9) (h8 : cO a = 2 → vp_in (cA a) 8) (hl : st.length < 128) (hs : sf_SK sT st)
    (h : ∀ sT, sf_SK sT (sf_ci sf_fO (fun _ => 0) (fun x => L x.toNatClampNeg) (cO a) (cA a) st) → wX_analyse_11 post n (nI k) x2 (nI (a + 1)) xv xt xo xc xs xf xr xp xl (nI nn) xq xy xd xe xw xk xj xh (nI (sf_ci sf_fO (fun _ => 0) (fun x => L x.toNatClampNeg) (cO a) (cA a) st).length) K A L aI aS M oL oC oV kS kM kC kV cO cA cT cE oP bK bB bL sT rE rO fL) :
    wX_analyse_11 post (n + 1) (nI k) x2 (nI a) xv xt xo xc xs xf xr xp xl (nI nn) xq xy xd xe xw xk xj xh (nI st.length) K A L aI aS M oL oC oV kS kM kC kV cO cA cT cE oP bK bB bL sT rE rO fL := by
  have cl : (nI a).toNatClampNeg = a := nI_clamp (by omega)
  have hv : vp_in (nI a) 128 := vp_in_nI (by omega) (by omega)
  refine sf_x_anI ha hn hk nc (And.intro hv (nm_r (e' := cO a) (by rw [cl]) (br_f h6 (br_f h7 (br_f h9 (And.intro hv ?_))))))
  rw [cl]
  exact sf_x_step h8 hl hs fun sT' hs' => nm_r (nI_1 a) (h sT' hs')
theorem sf_x_anE {post : SX → Prop} {x2 : Int32} {b : Nat} (hb : b ≤ nn) (hn : nn ≤ 128) (hk : k ≤ 96) : ∀ (m a n : Nat) (st : List Int32) (sT : Nat → Int32), a + m = b → (∀ j, a ≤ j → j < b → cO j = 1 ∨ (cO j = 2 ∧ vp_in (cA j) 8) ∨ cO j = 3) → (∀ j, a ≤ j → j < b → sf_NC rE k j) → st.length + m ≤ 128 → sf_SK sT st →
    (∀ sT, sf_SK sT (sf_cr sf_fO (fun _ => 0) (fun x => L x.toNatClampNeg) cO cA a m st) → wX_analyse_11 post n (nI k) x2 (nI b) xv xt xo xc xs xf xr xp xl (nI nn) xq xy xd xe xw xk xj xh (nI (sf_cr sf_fO (fun _ => 0) (fun x => L x.toNatClampNeg) cO cA a m st).length) K A L aI aS M oL oC oV kS kM kC kV cO cA cT cE oP bK bB bL sT rE rO fL) →
    wX_analyse_11 post (n + m) (nI k) x2 (nI a) xv xt xo xc xs xf xr xp xl (nI nn) xq xy xd xe xw xk xj xh (nI st.length) K A L aI aS M oL oC oV kS kM kC kV cO cA cT cE oP bK bB bL sT rE rO fL := by
  intro m
  induction m with
  | zero =>
    intro a n st sT hab _ _ _ hs h
    have : a = b := by omega
    subst this
    exact h sT hs
  | succ m ih =>
    intro a n st sT hab hcv hnc hl hs h
    have q := hcv a (Nat.le_refl _) (by omega)
    have h6 : cO a ≠ 6 := by rcases q with z | z | z; rw [z]; decide; rw [z.1]; decide; rw [z]; decide
    have h7 : cO a ≠ 7 := by rcases q with z | z | z; rw [z]; decide; rw [z.1]; decide; rw [z]; decide
    have h9 : cO a ≠ 9 := by rcases q with z | z | z; rw [z]; decide; rw [z.1]; decide; rw [z]; decide
    have h8 : cO a = 2 → vp_in (cA a) 8 := by
      intro z
      rcases q with y | y | y
      · rw [z] at y; exact absurd y (by decide)
      · exact y.2
      · rw [z] at y; exact absurd y (by decide)
    have len : (sf_ci sf_fO (fun _ => 0) (fun x => L x.toNatClampNeg) (cO a) (cA a) st).length ≤ st.length + 1 := by
      unfold sf_ci sf_po
      have l1 : st.tail.length = st.length - 1 := List.length_tail
      have l2 : st.tail.tail.length = st.tail.length - 1 := List.length_tail
      split
      · exact Nat.le_refl _
      · split
        · exact Nat.le_refl _
        · split
          · show st.tail.tail.length + 1 ≤ _; omega
          · omega
    refine sf_x_an1 (by omega) hn hk (hnc a (Nat.le_refl _) (by omega)) h6 h7 h9 h8 (by omega) hs fun sT' hs' => ?_
    exact ih (a + 1) n _ sT' (by omega) (fun j x y => hcv j (by omega) y) (fun j x y => hnc j (by omega) y) (by omega) hs' h
/-- SET, OUT, DO with one label waiting -/
theorem sf_x_anS {post : SX → Prop} {x2 v : Int32} {p : Nat} (ha : a < nn) (hn : nn ≤ 128) (hk : k ≤ 96) (nc : sf_NC rE k a) (hp : p < 96) (hT : cT a = nI p) (hs : sf_SK sT [v])
    (h67 : cO a = 6 ∨ cO a = 7 ∨ cO a = 9) (hS : cO a ≠ 9 → wX_analyse_11 post n (nI k) x2 (nI (a + 1)) xv xt xo xc xs xf xr xp xl (nI nn) xq xy xd xe xw xk xj xh 0 K A L aI aS M oL oC oV kS kM kC kV cO cA cT cE oP bK bB bL sT rE rO (upd fL p (x2 ||| v)))
    (hD : cO a = 9 → k < 96 ∧ wX_analyse_11 post n (nI (k + 1)) (x2 ||| v) (nI (a + 1)) xv xt xo xc xs xf xr xp xl (nI nn) xq xy xd xe xw xk xj xh 0 K A L aI aS M oL oC oV kS kM kC kV cO cA cT cE oP bK bB bL sT (upd rE k (cE a)) (upd rO k x2) (upd fL p (x2 ||| v))) :
    wX_analyse_11 post (n + 1) (nI k) x2 (nI a) xv xt xo xc xs xf xr xp xl (nI nn) xq xy xd xe xw xk xj xh (nI [v].length) K A L aI aS M oL oC oV kS kM kC kV cO cA cT cE oP bK bB bL sT rE rO fL := by
  have cl : (nI a).toNatClampNeg = a := nI_clamp (by omega)
  have clp : (nI p).toNatClampNeg = p := nI_clamp (by omega)
  have clk : (nI k).toNatClampNeg = k := nI_clamp (by omega)
  have hv : vp_in (nI a) 128 := vp_in_nI (by omega) (by omega)
  have G : wX_analyse_90 post (wX_analyse_11 post n) (nI k) x2 (nI a) (cO a) xv xt xo xc xs xf xr xp xl (nI nn) xq xy xd xe xw xk xj xh (nI [v].length) K A L aI aS M oL oC oV kS kM kC kV cO cA cT cE oP bK bB bL sT rE rO fL := by
    refine sf_x_pop (show 1 ≤ 128 by decide) hs fun _ => nm_e (And.intro hv (And.intro (by rw [cl, hT]; exact vp_in_nI hp (by omega)) (nm_r (e' := upd fL p (x2 ||| v)) (by rw [cl, hT, clp]; rfl) ?_)))
    by_cases z : cO a = 9
    · obtain ⟨d1, d2⟩ := hD z
      exact br_t z (br_f (nI_ge (b := 96) d1 (by omega)) (And.intro hv (And.intro (vp_in_nI d1 (by omega)) (nm_r (e' := upd rE k (cE a)) (by rw [cl, clk]) (And.intro (vp_in_nI d1 (by omega)) (nm_r (e' := upd rO k x2) (by rw [clk]) (nm_r (nI_1 k) (nm_r (nI_1 a) d2))))))))
    · exact br_f z (nm_r (nI_1 a) (hS z))
  refine sf_x_anI ha hn hk nc (And.intro hv (nm_r (e' := cO a) (by rw [cl]) ?_))
  by_cases z6 : cO a = 6
  · exact br_t z6 G
  · refine br_f z6 ?_
    by_cases z7 : cO a = 7
    · exact br_t z7 G
    · refine br_f z7 ?_
      have z9 : cO a = 9 := by
        rcases h67 with y | y | y
        · exact absurd y z6
        · exact absurd y z7
        · exact y
      exact br_t z9 G
end
/-! facts of a compiled program, place by place -/
section
variable {nv c p : Nat} {K A cO cA cT cE : Nat → Int32} {xn : Int32}
/-- a boundary: the end, or a token of the six kinds -/
def sf_BD (K : Nat → Int32) (c p : Nat) : Prop := p = c ∨ (p < c ∧ sf_six (K p))
theorem sf_CM_nb (C : sf_CM nv c K A xn cO cA cT cE) (hp : p < c) (h6 : sf_six (K p)) : p < sf_nb K c p ∧ sf_BD K c (sf_nb K c p) ∧ sf_ad K p ≤ sf_ad K (sf_nb K c p) ∧ sf_ad K (sf_nb K c p) ≤ sf_ad K c := by
  have a := C.2.2.2.1.2.2.2.2.2.1 p hp h6
  have l : p < sf_nb K c p := by
    have x := sf_xe_spec (K := K) hp
    unfold sf_nb
    split
    · omega
    · split
      · omega
      · omega
  refine ⟨l, ?_, sf_ad_mono (by omega), sf_ad_mono a.1⟩
  rcases a.2 with z | z
  · exact Or.inl z
  · rcases Nat.lt_or_ge (sf_nb K c p) c with y | y
    · exact Or.inr ⟨y, z⟩
    · exact Or.inl (by omega)
theorem sf_CM_0 (C : sf_CM nv c K A xn cO cA cT cE) : sf_BD K c 0 := by
  rcases C.2.2.2.1.2.2.2.2.2.2 with z | z
  · exact Or.inl z.symm
  · rcases Nat.eq_zero_or_pos c with y | y
    · exact Or.inl y.symm
    · exact Or.inr ⟨y, z⟩
/-- tokens between a statement's head and the next boundary -/
theorem sf_CM_mid (C : sf_CM nv c K A xn cO cA cT cE) (hp : p < c) (hb : sf_b (K p)) {j : Nat} (h1 : p < j) (h2 : j < sf_nb K c p) : sf_e (K j) ∨ K j = 9 := by
  have x := sf_xe_spec (K := K) hp
  have B := C.2.2.2.1.1 p hp hb
  by_cases g : sf_g (K p)
  · rw [sf_nb_g g] at h2
    rcases Nat.lt_or_ge j (sf_xe K c p) with z | z
    · exact Or.inl (x.2.2.1 j h1 z)
    · have : j = sf_xe K c p := by omega
      rw [this]; exact Or.inr (B.2.2.1 g)
  · rw [sf_nb_b hb g] at h2
    exact Or.inl (x.2.2.1 j h1 h2)
theorem sf_BK_e9 {m : Nat} : ∀ (n : Nat), (∀ j, m ≤ j → j < m + n → sf_e (K j) ∨ K j = 9) → sf_BK K (m + n) = sf_BK K m := by
  intro n
  induction n with
  | zero => intro _; rfl
  | succ n ih =>
    intro h
    have q := h (m + n) (by omega) (by omega)
    rw [← Nat.add_assoc, sf_BK_n ?_ (sf_e9_six q).2.2.2 (sf_e9_six q).2.2.1]
    · exact ih fun j a b => h j a (by omega)
    · exact fun z => (sf_e9_six q).2.1 (sf_g_b z)
theorem sf_CM_BKnb (C : sf_CM nv c K A xn cO cA cT cE) (hp : p < c) (hb : sf_b (K p)) : sf_BK K (sf_nb K c p) = sf_BK K (p + 1) := by
  have l := (sf_CM_nb C hp (sf_b_six hb)).1
  have := sf_BK_e9 (K := K) (m := p + 1) (sf_nb K c p - (p + 1)) (fun j a b => sf_CM_mid C hp hb (by omega) (by omega))
  rw [show p + 1 + (sf_nb K c p - (p + 1)) = sf_nb K c p from by omega] at this; exact this
/-- the innermost open region doesn't end inside a statement -/
theorem sf_CM_nc (C : sf_CM nv c K A xn cO cA cT cE) (hc : c ≤ 96) (hp : p < c) (h6 : sf_six (K p)) (h11 : K p ≠ 11) {o s : Nat} {B : List (Nat × Nat)} (hb : sf_BK K p = (o, s) :: B) {j : Nat} (hj : j < sf_ad K (sf_nb K c p)) : cE (sf_ti K c o) ≠ nI j := by
  obtain ⟨q, q1, q2, q3, s', B', q4⟩ : ∃ q, p ≤ q ∧ q < c ∧ K q = 11 ∧ ∃ s B, sf_BK K q = (o, s) :: B := by
    rcases sf_close (K := K) (p := p) (o := o) ⟨(o, s), by rw [hb]; simp, rfl⟩ (c - p) with ⟨x, hx, _⟩ | ⟨q, q1, q2, q3⟩
    · rw [show p + (c - p) = c from by omega, C.2.2.1] at hx; exact nomatch hx
    · exact ⟨q, q1, by omega, q3⟩
  have e := C.2.2.2.1.2.2.2.2.1 q q2 q3 o s' B' q4
  have l := (sf_CM_nb C hp h6).1
  have ge : sf_nb K c p ≤ q := by
    rcases Nat.lt_or_ge q (sf_nb K c p) with z | z
    · exfalso
      rcases Nat.lt_or_ge p q with y | y
      · by_cases b : sf_b (K p)
        · have := sf_CM_mid C hp b y z
          exact (sf_e9_six this).2.2.2 q3
        · rw [sf_nb_n b] at z; omega
      · have : q = p := by omega
        subst this; exact h11 q3
    · exact z
  have m := sf_ad_mono (K := K) (p := sf_nb K c p) (q := q + 1) (by omega)
  have m2 := sf_ad_le (K := K) (q + 1)
  rw [e]
  intro z
  have := sf_inj z (by omega) (by omega)
  omega
end
end
section
/-! the component: the analysis, whole -/
section
variable {xv xt xo xc xs xf xr xp xl xn xq xy xd xe xw xk xj xh xz : Int32} {K A L aI aS M oL oC oV kS kM kC kV cO cA cT cE oP bK bB bL sT rE rO fL : Nat → Int32}
variable {nv c : Nat}
theorem sf_OB_hd {p : Nat} {o : Nat} {B : List Nat} (h : sf_OB K p = o :: B) : ∃ s B', sf_BK K p = (o, s) :: B' ∧ B = B'.map Prod.fst := by
  unfold sf_OB at h
  cases e : sf_BK K p with
  | nil => rw [e] at h; exact nomatch h
  | cons x B' =>
    rw [e] at h
    have := List.cons.inj h
    exact ⟨x.2, B', by rw [← this.1], this.2.symm⟩
theorem sf_x_an11 {post : SX → Prop} (C : sf_CM nv c K A xn cO cA cT cE) (hc : c ≤ 96) (hnv : nv ≤ 8)
    (h : ∀ sT rE rO fL, (∀ i, i < c → sf_b (K i) → fL i = sf_fw L K A c i) → post (xv, xt, xo, xc, xs, xf, xr, xp, xl, xn, xq, xy, xd, xe, xw, xk, xj, xh, 0, K, A, L, aI, aS, M, oL, oC, oV, kS, kM, kC, kV, cO, cA, cT, cE, oP, bK, bB, bL, sT, rE, rO, fL)) :
    ∀ (m p n : Nat) (sT rE rO fL : Nat → Int32), c - p < m → sf_BD K c p → p ≤ c → sf_ad K c + 1 - sf_ad K p < n → sf_SR L K A cE rE rO c (sf_OB K p) → (∀ i, i < p → sf_b (K i) → fL i = sf_fw L K A c i) →
      wX_analyse_11 post n (nI (sf_OB K p).length) (sf_cx L K A c (sf_OB K p)) (nI (sf_ad K p)) xv xt xo xc xs xf xr xp xl xn xq xy xd xe xw xk xj xh 0 K A L aI aS M oL oC oV kS kM kC kV cO cA cT cE oP bK bB bL sT rE rO fL := by
  obtain ⟨hxn, CF, Cb, CD, C0⟩ := C
  have C : sf_CM nv c K A xn cO cA cT cE := ⟨hxn, CF, Cb, CD, C0⟩
  have adc := sf_ad_le (K := K) c
  subst hxn
  intro m
  induction m with
  | zero => intro p n sT rE rO fL hm; exact absurd hm (by omega)
  | succ m ih =>
    intro p n sT rE rO fL hm hbd hpc hn hSR hfl
    have obl : (sf_OB K p).length ≤ p := by unfold sf_OB; rw [List.length_map]; exact sf_BK_len K p
    rcases hbd with z | ⟨hp, h6⟩
    · subst z
      have ob : sf_OB K p = [] := by unfold sf_OB; rw [Cb]; rfl
      rw [ob]
      obtain ⟨n, rfl⟩ : ∃ k, n = k + 2 := ⟨n - 2, by omega⟩
      refine sf_x_an1 (st := []) (by omega) (by omega) (by decide) (Or.inl rfl) (by rw [C0]; decide) (by rw [C0]; decide) (by rw [C0]; decide) (fun z => by rw [C0] at z; exact absurd z (by decide)) (by decide) trivial fun sT' _ => ?_
      have e : sf_ci sf_fO (fun _ => 0) (fun x => L x.toNatClampNeg) (cO (sf_ad K p)) (cA (sf_ad K p)) [] = [] := by
        rw [C0]; rfl
      rw [e]
      exact br_t (nI_le (Nat.le_refl _) (by omega)) (h _ _ _ _ hfl)
    · obtain ⟨l1, l2, l3, l4⟩ := sf_CM_nb C hp h6
      have nbc : sf_nb K c p ≤ c := (CD.2.2.2.2.2.1 p hp h6).1
      have NC : K p ≠ 11 → ∀ j, j < sf_ad K (sf_nb K c p) → sf_NC rE (sf_OB K p).length j := by
        intro h11 j hj
        cases e : sf_OB K p with
        | nil => exact Or.inl rfl
        | cons o B =>
          obtain ⟨s, B', b1, b2⟩ := sf_OB_hd e
          rw [e] at hSR
          refine Or.inr ?_
          show rE (B.length + 1 - 1) ≠ nI j
          rw [Nat.add_sub_cancel, hSR.1]
          exact sf_CM_nc C hc hp h6 h11 b1 hj
      by_cases hb : sf_b (K p)
      · obtain ⟨b1, b2, b3, b4, b5, b6, b7, b8⟩ := CD.1 p hp hb
        have g11 : K p ≠ 11 := (sf_b1011 hb).2
        have nc := NC g11
        have EL := sf_EX_lab (L := L) b4
        have hhd : sf_hd K p ≤ sf_ti K c p := b4.1
        have hfl' : ∀ i, i < sf_nb K c p → sf_b (K i) → upd fL p (sf_cx L K A c (sf_OB K p) ||| sf_xl L K A c p) i = sf_fw L K A c i := by
          intro i hi hbi
          rcases Nat.lt_trichotomy i p with z | z | z
          · rw [pk_un (by omega)]; exact hfl i z hbi
          · subst z; rw [pk_us, sf_fw_cx]
          · exact absurd hbi (sf_e9_six (sf_CM_mid C hp hb z hi)).2.1
        have cvx : ∀ j, sf_hd K p ≤ j → j < sf_ti K c p → cO j = 1 ∨ (cO j = 2 ∧ vp_in (cA j) 8) ∨ cO j = 3 := by
          intro j x y
          rcases b4.2.1 j x y with q | q | q
          · exact Or.inl q
          · exact Or.inr (Or.inl ⟨q.1, sf_in8 q.2 hnv (by omega)⟩)
          · exact Or.inr (Or.inr q)
        -- from the head of the expression on
        have main : ∀ (n' : Nat) (sT : Nat → Int32), sf_ad K c + 1 - sf_hd K p < n' → wX_analyse_11 post n' (nI (sf_OB K p).length) (sf_cx L K A c (sf_OB K p)) (nI (sf_hd K p)) xv xt xo xc xs xf xr xp xl (nI (sf_ad K c + 1)) xq xy xd xe xw xk xj xh (nI ([] : List Int32).length) K A L aI aS M oL oC oV kS kM kC kV cO cA cT cE oP bK bB bL sT rE rO fL := by
          intro n' sT hn'
          obtain ⟨n2, rfl⟩ : ∃ k, n' = (k + 1) + (sf_ti K c p - sf_hd K p) := ⟨n' - 1 - (sf_ti K c p - sf_hd K p), by omega⟩
          refine sf_x_anE (b := sf_ti K c p) (by omega) (by omega) (by omega) (sf_ti K c p - sf_hd K p) (sf_hd K p) (n2 + 1) [] sT (by omega) cvx (fun j x y => nc j (by omega)) (by show 0 + _ ≤ _; omega) trivial fun sT' hs' => ?_
          rw [EL] at hs' ⊢
          refine sf_x_anS (by omega) (by omega) (by omega) (nc _ (by omega)) (by omega) b6 hs' ?_ (fun h9 => ?_) (fun h9 => ?_)
          · rw [b5]
            by_cases g : sf_g (K p)
            · rw [if_pos g]; exact Or.inr (Or.inr rfl)
            · rw [if_neg g]
              rcases hb with y | y | y | y
              · exact Or.inl y
              · exact Or.inr (Or.inl y)
              · exact absurd (Or.inl y) g
              · exact absurd (Or.inr y) g
          · have g : ¬ sf_g (K p) := fun g => h9 (by rw [b5, if_pos g])
            have bk : sf_OB K (sf_nb K c p) = sf_OB K p := by
              unfold sf_OB; rw [sf_CM_BKnb C hp hb, sf_BK_n g g11 (sf_b1011 hb).1]
            have I := ih (sf_nb K c p) n2 sT' rE rO (upd fL p (sf_cx L K A c (sf_OB K p) ||| sf_xl L K A c p)) (by omega) l2 nbc (by omega) (by rw [bk]; exact hSR) hfl'
            rw [bk, ← b8] at I
            exact I
          · have g : sf_g (K p) := by
              by_cases g : sf_g (K p)
              · exact g
              · rw [b5, if_neg g] at h9
                rw [h9] at hb; exact absurd hb (by decide)
            have bk : sf_OB K (sf_nb K c p) = p :: sf_OB K p := by
              unfold sf_OB; rw [sf_CM_BKnb C hp hb, sf_BK_g g]; rfl
            refine ⟨by omega, ?_⟩
            have I := ih (sf_nb K c p) n2 sT' (upd rE (sf_OB K p).length (cE (sf_ti K c p))) (upd rO (sf_OB K p).length (sf_cx L K A c (sf_OB K p))) (upd fL p (sf_cx L K A c (sf_OB K p) ||| sf_xl L K A c p)) (by omega) l2 nbc (by omega) ?_ hfl'
            · rw [bk, ← b8] at I
              exact I
            · rw [bk]
              exact ⟨pk_us, pk_us, sf_SR_up _ (fun j hj => ⟨pk_un (by omega), pk_un (by omega)⟩) hSR⟩
        by_cases k12 : K p = 12
        · have hd : sf_hd K p = sf_ad K p + 1 := by unfold sf_hd; rw [if_pos k12]
          have o12 := (b1 k12).1
          obtain ⟨n, rfl⟩ : ∃ k, n = k + 1 := ⟨n - 1, by omega⟩
          refine sf_x_an1 (st := []) (by omega) (by omega) (by omega) (nc _ (by omega)) (by rw [o12]; decide) (by rw [o12]; decide) (by rw [o12]; decide) (fun z => by rw [o12] at z; exact absurd z (by decide)) (by decide) trivial fun sT' _ => ?_
          have e : sf_ci sf_fO (fun _ => 0) (fun x => L x.toNatClampNeg) (cO (sf_ad K p)) (cA (sf_ad K p)) [] = [] := by
            rw [o12]; rfl
          rw [e, ← hd]
          exact main n sT' (by omega)
        · have hd : sf_hd K p = sf_ad K p := by unfold sf_hd; rw [if_neg k12]; rfl
          have M := main n sT (by omega)
          rw [hd] at M
          exact M
      · have nb1 : sf_nb K c p = p + 1 := sf_nb_n hb
        have hfl' : ∀ i, i < p + 1 → sf_b (K i) → fL i = sf_fw L K A c i := by
          intro i hi hbi
          rcases Nat.lt_or_ge i p with z | z
          · exact hfl i z hbi
          · have : i = p := by omega
            subst this; exact absurd hbi hb
        rw [nb1] at l2 nbc
        have skip : ∀ (n' : Nat), cO (sf_ad K p) ≠ 1 → cO (sf_ad K p) ≠ 2 → cO (sf_ad K p) ≠ 3 → cO (sf_ad K p) ≠ 6 → cO (sf_ad K p) ≠ 7 → cO (sf_ad K p) ≠ 9 → sf_NC rE (sf_OB K p).length (sf_ad K p) → sf_ad K p < sf_ad K c + 1 →
            (∀ sT, wX_analyse_11 post n' (nI (sf_OB K p).length) (sf_cx L K A c (sf_OB K p)) (nI (sf_ad K p + 1)) xv xt xo xc xs xf xr xp xl (nI (sf_ad K c + 1)) xq xy xd xe xw xk xj xh 0 K A L aI aS M oL oC oV kS kM kC kV cO cA cT cE oP bK bB bL sT rE rO fL) → wX_analyse_11 post (n' + 1) (nI (sf_OB K p).length) (sf_cx L K A c (sf_OB K p)) (nI (sf_ad K p)) xv xt xo xc xs xf xr xp xl (nI (sf_ad K c + 1)) xq xy xd xe xw xk xj xh 0 K A L aI aS M oL oC oV kS kM kC kV cO cA cT cE oP bK bB bL sT rE rO fL := by
          intro n' q1 q2 q3 q6 q7 q9 qn ql hh
          refine sf_x_an1 (st := []) ql (by omega) (by omega) qn q6 q7 q9 (fun z => absurd z q2) (by decide) trivial fun sT' _ => ?_
          have e : sf_ci sf_fO (fun _ => 0) (fun x => L x.toNatClampNeg) (cO (sf_ad K p)) (cA (sf_ad K p)) [] = [] := by
            unfold sf_ci; rw [if_neg q1, if_neg q2, if_neg q3]
          rw [e]
          exact hh sT'
        by_cases k10 : K p = 10
        · have o10 := CD.2.1 p hp k10
          have adp : sf_ad K (p + 1) = sf_ad K p + 1 := by rw [sf_ad_s, sf_cw_1 (by simp [k10])]
          have bk : sf_OB K (p + 1) = sf_OB K p := sf_OB_n (by rw [k10]; decide) (by rw [k10]; decide)
          rw [nb1] at l4
          obtain ⟨n, rfl⟩ : ∃ k, n = k + 1 := ⟨n - 1, by omega⟩
          refine skip n (by rw [o10]; decide) (by rw [o10]; decide) (by rw [o10]; decide) (by rw [o10]; decide) (by rw [o10]; decide) (by rw [o10]; decide) (NC (by rw [k10]; decide) _ (by rw [nb1]; omega)) (by omega) fun sT' => ?_
          have I := ih (p + 1) n sT' rE rO fL (by omega) l2 nbc (by omega) (by rw [bk]; exact hSR) hfl'
          rw [bk, adp] at I
          exact I
        · have k11 : K p = 11 := by
            rcases h6 with y | y | y | y | y | y
            · exact absurd (Or.inl y) hb
            · exact absurd (Or.inr (Or.inl y)) hb
            · exact absurd (Or.inr (Or.inr (Or.inl y))) hb
            · exact absurd y k10
            · exact y
            · exact absurd (Or.inr (Or.inr (Or.inr y))) hb
          have hne := sf_FT_11 (CF p hp) k11
          rw [nb1] at l4
          cases e : sf_OB K p with
          | nil => exact absurd (List.map_eq_nil_iff.mp e) hne
          | cons o B =>
            obtain ⟨s, B', c1, c2⟩ := sf_OB_hd e
            have bk : sf_OB K (p + 1) = B := by rw [sf_OB_11 k11, e]; rfl
            have en := CD.2.2.2.2.1 p hp k11 o s B' c1
            rw [e] at hSR obl NC skip
            have obl' : B.length + 1 ≤ p := obl
            have cwE := sf_cw_E k11 c1
            have lazy : ∀ n' sT, sf_ad K c + 1 - sf_ad K (p + 1) < n' → wX_analyse_11 post n' (nI (B.length + 1)) (sf_cx L K A c (o :: B)) (nI (sf_ad K (p + 1))) xv xt xo xc xs xf xr xp xl (nI (sf_ad K c + 1)) xq xy xd xe xw xk xj xh 0 K A L aI aS M oL oC oV kS kM kC kV cO cA cT cE oP bK bB bL sT rE rO fL := by
              intro n' sT hn'
              have I := ih (p + 1) n' sT rE rO fL (by omega) l2 nbc hn' (by rw [bk]; exact hSR.2.2) hfl'
              rw [bk] at I
              exact sf_x_anL (by omega) (by omega) (by omega) (hSR.1.trans en) hSR.2.1 I
            by_cases ko : K o = 12
            · rw [if_pos ko] at cwE
              have adp : sf_ad K (p + 1) = sf_ad K p + 1 := by rw [sf_ad_s, cwE]
              have o11 := (CD.2.2.1 p hp k11 o s B' c1 ko).1
              obtain ⟨n, rfl⟩ : ∃ k, n = k + 1 := ⟨n - 1, by omega⟩
              refine skip n (by rw [o11]; decide) (by rw [o11]; decide) (by rw [o11]; decide) (by rw [o11]; decide) (by rw [o11]; decide) (by rw [o11]; decide) (Or.inr ?_) (by omega) fun sT' => ?_
              · show rE (B.length + 1 - 1) ≠ _
                rw [Nat.add_sub_cancel, hSR.1, en]
                intro z
                have := sf_inj z (by omega) (by omega)
                omega
              · have I := lazy n sT' (by omega)
                rw [adp] at I
                exact I
            · rw [if_neg ko] at cwE
              have adp : sf_ad K (p + 1) = sf_ad K p := by rw [sf_ad_s, cwE]; rfl
              have I := lazy n sT (by omega)
              rw [adp] at I
              exact I
theorem sf_x_analyse {post : SX → Prop} (C : sf_CM nv c K A xn cO cA cT cE) (hc : c ≤ 96) (hnv : nv ≤ 8)
    (h : ∀ sT rE rO fL, (∀ i, i < c → sf_b (K i) → fL i = sf_fw L K A c i) → post (xv, xt, xo, xc, xs, xf, xr, xp, xl, xn, xq, xy, xd, xe, xw, xk, xj, xh, 0, K, A, L, aI, aS, M, oL, oC, oV, kS, kM, kC, kV, cO, cA, cT, cE, oP, bK, bB, bL, sT, rE, rO, fL)) : wpX_analyse post (xv, xt, xo, xc, xs, xf, xr, xp, xl, xn, xq, xy, xd, xe, xw, xk, xj, xh, xz, K, A, L, aI, aS, M, oL, oC, oV, kS, kM, kC, kV, cO, cA, cT, cE, oP, bK, bB, bL, sT, rE, rO, fL) :=
  ⟨sf_ad K c + 2, sf_x_an11 C hc hnv h (c + 1) 0 (sf_ad K c + 2) sT rE rO fL (by omega) (sf_CM_0 C) (by omega) (by show sf_ad K c + 1 - 0 < _; omega) trivial (fun i hi => absurd hi (by omega))⟩
end
end
section
/-! the component: the first bad statement -/
theorem sf_FU_skip {ou : Bool} {L K A : Nat → Int32} {c p : Nat} {r : Int32} (h : sf_FU ou L K A c p r) : ∀ (m : Nat), p + m ≤ c → (∀ i, p ≤ i → i < p + m → ¬ sf_US ou L K A c i) → sf_FU ou L K A c (p + m) r := by
  intro m
  induction m with
  | zero => intro _ _; exact h
  | succ m ih =>
    intro hm hu
    exact sf_FU_next (p := p + m) (ih (by omega) fun i a b => hu i a (by omega)) (by omega) (hu (p + m) (by omega) (by omega))
section
variable {xv xt xo xc xs xf xr xp xl xn xq xy xd xe xw xk xj xh xz : Int32} {K A L aI aS M oL oC oV kS kM kC kV cO cA cT cE oP bK bB bL sT rE rO fL : Nat → Int32}
variable {nv c : Nat}
theorem sf_x_below {post : Int32 → Prop} {x y : Int32} (h1 : (x &&& y) = x → post 1) (h0 : ¬ (x &&& y) = x → post 0) : wpX_below post (xv, xt, xo, xc, xs, xf, xr, xp, xl, xn, xq, xy, xd, xe, xw, xk, xj, xh, xz, K, A, L, aI, aS, M, oL, oC, oV, kS, kM, kC, kV, cO, cA, cT, cE, oP, bK, bB, bL, sT, rE, rO, fL) x y := br_c h1 h0
theorem sf_x_fuK {post : Int32 → Prop} {nn b : Nat} (hb : b ≤ nn) (hn : nn ≤ 128) : ∀ (m a n : Nat), a + m = b → (∀ j, a ≤ j → j < b → cO j ≠ 6 ∧ cO j ≠ 7) → wX_firstUnsafe_2 post xv xt xo xc xs xf xr xp xl (nI nn) xq xy xd xe xw xk xj xh xz K A L aI aS M oL oC oV kS kM kC kV cO cA cT cE oP bK bB bL sT rE rO fL n (nI b) → wX_firstUnsafe_2 post xv xt xo xc xs xf xr xp xl (nI nn) xq xy xd xe xw xk xj xh xz K A L aI aS M oL oC oV kS kM kC kV cO cA cT cE oP bK bB bL sT rE rO fL (n + m) (nI a) := by
  intro m
  induction m with
  | zero =>
    intro a n hab _ h
    have : a = b := by omega
    subst this; exact h
  | succ m ih =>
    intro a n hab hne h
    have q := hne a (Nat.le_refl _) (by omega)
    exact br_f (nI_ge (by omega) (by omega)) (And.intro (vp_in_nI (by omega) (by omega)) (nm_r (e' := cO a) (by rw [nI_clamp (by omega)]) (br_f q.1 (br_f q.2 (nm_r (nI_1 a) (ih (a + 1) n (by omega) (fun j x y => hne j (by omega) y) h))))))
theorem sf_x_fu2 {post : Int32 → Prop} {r : Int32} (C : sf_CM nv c K A xn cO cA cT cE) (hc : c ≤ 96) (hT : ∀ i, i < c → sf_TV nv (K i) (A i)) (hnv : nv ≤ 8) (hfl : ∀ i, i < c → sf_b (K i) → fL i = sf_fw L K A c i) (hp : post r) :
    ∀ (m p n : Nat), c - p < m → sf_BD K c p → p ≤ c → sf_ad K c + 1 - sf_ad K p < n → sf_FU true L K A c p r → wX_firstUnsafe_2 post xv xt xo xc xs xf xr xp xl xn xq xy xd xe xw xk xj xh xz K A L aI aS M oL oC oV kS kM kC kV cO cA cT cE oP bK bB bL sT rE rO fL n (nI (sf_ad K p)) := by
  obtain ⟨hxn, CF, Cb, CD, C0⟩ := C
  have C : sf_CM nv c K A xn cO cA cT cE := ⟨hxn, CF, Cb, CD, C0⟩
  have adc := sf_ad_le (K := K) c
  subst hxn
  intro m
  induction m with
  | zero => intro p n hm; exact absurd hm (by omega)
  | succ m ih =>
    intro p n hm hbd hpc hn hfu
    rcases hbd with z | ⟨hpp, h6⟩
    · subst z
      obtain ⟨n, rfl⟩ : ∃ k, n = (k + 1) + 1 := ⟨n - 2, by omega⟩
      refine sf_x_fuK (b := sf_ad K p + 1) (by omega) (by omega) 1 (sf_ad K p) (n + 1) (by omega) (fun j x y => ?_) ?_
      · have : j = sf_ad K p := by omega
        subst this; rw [C0]; decide
      · have := sf_FU_end hfu
        subst this
        exact br_t (nI_le (Nat.le_refl _) (by omega)) hp
    · obtain ⟨l1, l2, l3, l4⟩ := sf_CM_nb C hpp h6
      have nbc : sf_nb K c p ≤ c := (CD.2.2.2.2.2.1 p hpp h6).1
      by_cases hb : sf_b (K p)
      · obtain ⟨b1, b2, b3, b4, b5, b6, b7, b8⟩ := CD.1 p hpp hb
        have hhd : sf_hd K p ≤ sf_ti K c p := b4.1
        have rest : ¬ sf_US true L K A c p → sf_FU true L K A c (sf_nb K c p) r := by
          intro u
          have := sf_FU_skip hfu (sf_nb K c p - p) (by omega) (fun i x y => ?_)
          · rw [show p + (sf_nb K c p - p) = sf_nb K c p from by omega] at this; exact this
          · rcases Nat.lt_or_ge p i with z | z
            · have q := sf_CM_mid C hpp hb z (by omega)
              have q' := (sf_e9_six q).2.1
              rintro (⟨y, _⟩ | ⟨y, _⟩)
              · exact q' (Or.inl y)
              · exact q' (Or.inr (Or.inl y))
            · have : i = p := by omega
              subst this; exact u
        have pre : ∀ j, sf_ad K p ≤ j → j < sf_ti K c p → cO j ≠ 6 ∧ cO j ≠ 7 := by
          intro j x y
          rcases Nat.lt_or_ge j (sf_hd K p) with z | z
          · have k12 : K p = 12 := by
              by_cases k : K p = 12
              · exact k
              · have hd : sf_hd K p = sf_ad K p := by unfold sf_hd; rw [if_neg k]; rfl
                omega
            have hd : sf_hd K p = sf_ad K p + 1 := by unfold sf_hd; rw [if_pos k12]
            have : j = sf_ad K p := by omega
            subst this
            rw [(b1 k12).1]; decide
          · rcases b4.2.1 j z y with q | q | q
            · rw [q]; decide
            · rw [q.1]; decide
            · rw [q]; decide
        have hda : sf_ad K p ≤ sf_hd K p := by unfold sf_hd; omega
        obtain ⟨n2, rfl⟩ : ∃ k, n = (k + 1) + (sf_ti K c p - sf_ad K p) := ⟨n - 1 - (sf_ti K c p - sf_ad K p), by omega⟩
        refine sf_x_fuK (b := sf_ti K c p) (by omega) (by omega) _ (sf_ad K p) (n2 + 1) (by omega) pre ?_
        have I := ih (sf_nb K c p) n2 (by omega) l2 nbc (by omega)
        rw [← b8] at I
        have cl : (nI (sf_ti K c p)).toNatClampNeg = sf_ti K c p := nI_clamp (by omega)
        have clp : (nI p).toNatClampNeg = p := nI_clamp (by omega)
        have hv : vp_in (nI (sf_ti K c p)) 128 := vp_in_nI (by omega) (by omega)
        have hvp : vp_in (nI p) 96 := vp_in_nI (by omega) (by omega)
        have here : sf_US true L K A c p → post (nI p) := fun u => by rw [← sf_FU_here hfu hpp u]; exact hp
        refine br_f (nI_ge (by omega) (by omega)) (And.intro hv (nm_r (e' := cO (sf_ti K c p)) (by rw [cl]) ?_))
        by_cases g : sf_g (K p)
        · rw [b5, if_pos g]
          refine br_f (by decide) (br_f (by decide) (nm_r (nI_1 _) (I (rest ?_))))
          rintro (⟨y, _⟩ | ⟨y, _⟩)
          · rw [y] at g; revert g; decide
          · rw [y] at g; revert g; decide
        · rw [b5, if_neg g]
          have a7 := b7 g
          by_cases k6 : K p = 6
          · refine br_t k6 (And.intro hv (nm_r (e' := nI p) (by rw [cl]; exact b6) (br_t k6 (And.intro hv (And.intro (by rw [cl, a7]; exact sf_in8 ((hT p hpp).2.2.2.1 k6) hnv (by omega)) (And.intro hvp ?_))))))
            rw [cl, a7, clp, hfl p hpp hb]
            refine sf_x_below (fun z => br_f (by decide) (nm_r (nI_1 _) (I (rest ?_)))) (fun z => br_t rfl (here (Or.inl ⟨k6, z⟩)))
            rintro (⟨_, y⟩ | ⟨y, _⟩)
            · exact y z
            · rw [k6] at y; revert y; decide
          · have k7 : K p = 7 := by
              rcases hb with y | y | y | y
              · exact absurd y k6
              · exact y
              · exact absurd (Or.inl y) g
              · exact absurd (Or.inr y) g
            refine br_f k6 (br_t k7 (And.intro hv (nm_r (e' := nI p) (by rw [cl]; exact b6) (br_f k6 (And.intro hv (And.intro hvp ?_))))))
            rw [cl, a7, clp, hfl p hpp hb]
            refine sf_x_below (fun z => br_f (by decide) (nm_r (nI_1 _) (I (rest ?_)))) (fun z => br_t rfl (here (Or.inr ⟨k7, rfl, z⟩)))
            rintro (⟨y, _⟩ | ⟨_, _, y⟩)
            · exact k6 y
            · exact y z
      · have nb1 : sf_nb K c p = p + 1 := sf_nb_n hb
        rw [nb1] at l2 nbc l4
        have nu : ¬ sf_US true L K A c p := by
          rintro (⟨y, _⟩ | ⟨y, _⟩)
          · exact hb (Or.inl y)
          · exact hb (Or.inr (Or.inl y))
        have I := fun n h => ih (p + 1) n (by omega) l2 nbc h (sf_FU_next hfu hpp nu)
        have cwl := sf_cw_le K p
        have ads := sf_ad_s (K := K) (p := p)
        rcases Nat.eq_zero_or_pos (sf_cw K p) with z | z
        · rw [ads, z] at I
          exact I n (by omega)
        · have z1 : sf_cw K p = 1 := by omega
          have o : cO (sf_ad K p) ≠ 6 ∧ cO (sf_ad K p) ≠ 7 := by
            by_cases k10 : K p = 10
            · rw [CD.2.1 p hpp k10]; decide
            · have k11 : K p = 11 := by
                rcases h6 with y | y | y | y | y | y
                · exact absurd (Or.inl y) hb
                · exact absurd (Or.inr (Or.inl y)) hb
                · exact absurd (Or.inr (Or.inr (Or.inl y))) hb
                · exact absurd y k10
                · exact y
                · exact absurd (Or.inr (Or.inr (Or.inr y))) hb
              cases e : sf_BK K p with
              | nil => exact absurd e (sf_FT_11 (CF p hpp) k11)
              | cons x B =>
                obtain ⟨o, s⟩ := x
                have ko : K o = 12 := by
                  have q := sf_cw_E k11 e
                  by_cases ko : K o = 12
                  · exact ko
                  · rw [if_neg ko] at q; omega
                rw [(CD.2.2.1 p hpp k11 o s B e ko).1]; decide
          rw [ads, z1] at I
          obtain ⟨n, rfl⟩ : ∃ k, n = k + 1 := ⟨n - 1, by omega⟩
          refine sf_x_fuK (b := sf_ad K p + 1) (by omega) (by omega) 1 (sf_ad K p) n (by omega) (fun j x y => ?_) (I n (by omega))
          have : j = sf_ad K p := by omega
          subst this; exact o
theorem sf_x_fu {post : Int32 → Prop} {r : Int32} (C : sf_CM nv c K A xn cO cA cT cE) (hc : c ≤ 96) (hT : ∀ i, i < c → sf_TV nv (K i) (A i)) (hnv : nv ≤ 8) (hfl : ∀ i, i < c → sf_b (K i) → fL i = sf_fw L K A c i) (hr : sf_FU true L K A c 0 r) (hp : post r) : wpX_firstUnsafe post (xv, xt, xo, xc, xs, xf, xr, xp, xl, xn, xq, xy, xd, xe, xw, xk, xj, xh, xz, K, A, L, aI, aS, M, oL, oC, oV, kS, kM, kC, kV, cO, cA, cT, cE, oP, bK, bB, bL, sT, rE, rO, fL) :=
  ⟨sf_ad K c + 2, sf_x_fu2 C hc hT hnv hfl hp (c + 1) 0 (sf_ad K c + 2) (by omega) (sf_CM_0 C) (by omega) (by show sf_ad K c + 1 - 0 < _; omega) hr⟩
end
end
section
/-! raise, pure: least closed labels -/
def sf_sub (x y : Int32) : Prop := ∀ b, bt x b = true → bt y b = true
theorem sf_sub_iff {x y : Int32} : (x &&& y) = x ↔ sf_sub x y := by
  constructor
  · intro h b hb
    rw [← h, b_and, Bool.and_eq_true] at hb
    exact hb.2
  · intro h
    refine b_ext fun i _ => ?_
    rw [b_and]
    cases e : bt x i with
    | false => rfl
    | true => rw [h i e]; rfl
theorem sf_sub_refl (x : Int32) : sf_sub x x := fun _ h => h
theorem sf_bt_or {x y : Int32} {b : Nat} : bt (x ||| y) b = true ↔ bt x b = true ∨ bt y b = true := by
  rw [b_or, Bool.or_eq_true]
/-- a value joined of labels of a fixed list of variables -/
def sf_lin (nv : Nat) (F : (Nat → Int32) → Int32) : Prop := ∃ S : List Nat, (∀ x, x ∈ S → x < nv) ∧ ∀ L b, bt (F L) b = true ↔ ∃ x, x ∈ S ∧ bt (L x) b = true
theorem sf_lin_0 {nv : Nat} : sf_lin nv (fun _ => 0) := ⟨[], fun x h => (nomatch h), fun L b => ⟨fun h => by rw [b_0] at h; exact (nomatch h), fun ⟨x, h, _⟩ => (nomatch h)⟩⟩
theorem sf_lin_or {nv : Nat} {F G : (Nat → Int32) → Int32} (hF : sf_lin nv F) (hG : sf_lin nv G) : sf_lin nv (fun L => F L ||| G L) := by
  obtain ⟨S, s1, s2⟩ := hF
  obtain ⟨T, t1, t2⟩ := hG
  refine ⟨S ++ T, fun x h => (List.mem_append.mp h).elim (s1 x) (t1 x), fun L b => ?_⟩
  rw [sf_bt_or, s2, t2]
  constructor
  · rintro (⟨x, a, d⟩ | ⟨x, a, d⟩)
    · exact ⟨x, List.mem_append.mpr (Or.inl a), d⟩
    · exact ⟨x, List.mem_append.mpr (Or.inr a), d⟩
  · rintro ⟨x, a, d⟩
    rcases List.mem_append.mp a with z | z
    · exact Or.inl ⟨x, z, d⟩
    · exact Or.inr ⟨x, z, d⟩
theorem sf_lin_v {nv x : Nat} (h : x < nv) : sf_lin nv (fun L => L x) :=
  ⟨[x], fun y hy => by rw [List.mem_singleton] at hy; rw [hy]; exact h, fun L b => ⟨fun e => ⟨x, List.mem_singleton.mpr rfl, e⟩, fun ⟨y, a, d⟩ => by rw [List.mem_singleton] at a; rw [a] at d; exact d⟩⟩
theorem sf_lin_xf {nv : Nat} {K A : Nat → Int32} : ∀ (m i : Nat) (F : (Nat → Int32) → Int32), sf_lin nv F → (∀ j, i ≤ j → j < i + m → K j = 2 → (A j).toNatClampNeg < nv) → sf_lin nv (fun L => sf_xf L K A i m (F L)) := by
  intro m
  induction m with
  | zero => intro i F hF _; exact hF
  | succ m ih =>
    intro i F hF h
    by_cases k : K i = 2
    · have := ih (i + 1) _ (sf_lin_or hF (sf_lin_v (h i (Nat.le_refl _) (by omega) k))) (fun j a b => h j (by omega) (by omega))
      have e : (fun L => sf_xf L K A i (m + 1) (F L)) = (fun L => sf_xf L K A (i + 1) m (F L ||| L (A i).toNatClampNeg)) := by
        funext L
        show sf_xf L K A (i + 1) m (if K i = 2 then F L ||| L (A i).toNatClampNeg else F L) = _
        rw [if_pos k]
      rw [e]; exact this
    · have := ih (i + 1) _ hF (fun j a b => h j (by omega) (by omega))
      have e : (fun L => sf_xf L K A i (m + 1) (F L)) = (fun L => sf_xf L K A (i + 1) m (F L)) := by
        funext L
        show sf_xf L K A (i + 1) m (if K i = 2 then F L ||| L (A i).toNatClampNeg else F L) = _
        rw [if_neg k]
      rw [e]; exact this
section
variable {nv c : Nat} {K A : Nat → Int32}
theorem sf_lin_xl {p : Nat} (hp : p < c) (ha : ∀ i, i < c → K i = 2 → (A i).toNatClampNeg < nv) : sf_lin nv (fun L => sf_xl L K A c p) := by
  have x := sf_xe_spec (K := K) hp
  exact sf_lin_xf _ _ _ sf_lin_0 (fun j a b => ha j (by omega))
theorem sf_lin_cx (ha : ∀ i, i < c → K i = 2 → (A i).toNatClampNeg < nv) : ∀ (B : List Nat), (∀ o, o ∈ B → o < c) → sf_lin nv (fun L => sf_cx L K A c B) := by
  intro B
  induction B with
  | nil => intro _; exact sf_lin_0
  | cons o B ih =>
    intro h
    exact sf_lin_or (ih fun x hx => h x (List.mem_cons_of_mem _ hx)) (sf_lin_xl (h o (by simp)) ha)
theorem sf_lin_fw {p : Nat} (hp : p < c) (ha : ∀ i, i < c → K i = 2 → (A i).toNatClampNeg < nv) : sf_lin nv (fun L => sf_fw L K A c p) := by
  have e : (fun L => sf_fw L K A c p) = (fun L => sf_cx L K A c (sf_OB K p) ||| sf_xl L K A c p) := by
    funext L; exact sf_fw_cx
  rw [e]
  refine sf_lin_or (sf_lin_cx ha _ fun o ho => ?_) (sf_lin_xl hp ha)
  unfold sf_OB at ho
  obtain ⟨x, hx, rfl⟩ := List.mem_map.mp ho
  have := sf_EN_mem _ x (sf_EN_BK K p) hx
  omega
def sf_CL (K A : Nat → Int32) (c : Nat) (L : Nat → Int32) : Prop := ∀ p, p < c → K p = 6 → sf_sub (sf_fw L K A c p) (L (A p).toNatClampNeg)
def sf_LB (nv : Nat) (L : Nat → Int32) : Prop := ∀ i, i < nv → ∀ b, 2 ≤ b → bt (L i) b = false
/-- LX is the least closed labelling above L0 -/
def sf_LX (nv c : Nat) (K A L0 LX : Nat → Int32) : Prop :=
  (∀ i, i < nv → sf_sub (L0 i) (LX i)) ∧ (∀ M, (∀ i, i < nv → sf_sub (L0 i) (M i)) → sf_CL K A c M → ∀ i, i < nv → sf_sub (LX i) (M i))
theorem sf_lin_mono {F : (Nat → Int32) → Int32} (h : sf_lin nv F) {L M : Nat → Int32} (hs : ∀ i, i < nv → sf_sub (L i) (M i)) : sf_sub (F L) (F M) := by
  obtain ⟨S, s1, s2⟩ := h
  intro b hb
  obtain ⟨x, a, d⟩ := (s2 L b).mp hb
  exact (s2 M b).mpr ⟨x, a, hs x (s1 x a) b d⟩
theorem sf_bt3 (b : Nat) : bt 3 b = decide (b < 2) := by
  rcases Nat.lt_or_ge b 32 with h | h
  · exact (by decide +kernel : ∀ i, i < 32 → bt 3 i = decide (i < 2)) b h
  · rw [b_big h, decide_eq_false (by omega)]
theorem sf_LX_LB {L0 LX : Nat → Int32} (h : sf_LX nv c K A L0 LX) (ha : ∀ i, i < c → K i = 2 → (A i).toNatClampNeg < nv) (h0 : sf_LB nv L0) : sf_LB nv LX := by
  intro i hi b hb
  have := h.2 (fun _ => 3) (fun i hi b hb => ?_) (fun p hp hk b hb => ?_) i hi b
  · cases e : bt (LX i) b with
    | false => rfl
    | true =>
      have := this e
      rw [sf_bt3] at this
      have := of_decide_eq_true this
      omega
  · rw [sf_bt3]
    rcases Nat.lt_or_ge b 2 with z | z
    · exact decide_eq_true z
    · rw [h0 i hi b z] at hb; exact (nomatch hb)
  · obtain ⟨S, s1, s2⟩ := sf_lin_fw (nv := nv) hp ha
    obtain ⟨x, _, d⟩ := (s2 _ b).mp hb
    exact d
/-- all labellings of one bit -/
def sf_Lm (e m : Nat) (i : Nat) : Int32 := if m.testBit i = true then nI (2 ^ e) else 0
theorem sf_bt2 : ∀ e, e < 2 → ∀ b, bt (nI (2 ^ e)) b = decide (b = e) := by
  intro e he b
  rcases Nat.lt_or_ge b 32 with h | h
  · exact (by decide +kernel : ∀ e, e < 2 → ∀ i, i < 32 → bt (nI (2 ^ e)) i = decide (i = e)) e he b h
  · rw [b_big h, decide_eq_false (by omega)]
theorem sf_bt_Lm {e m i b : Nat} (he : e < 2) : bt (sf_Lm e m i) b = true ↔ (b = e ∧ m.testBit i = true) := by
  unfold sf_Lm
  by_cases h : m.testBit i = true
  · rw [if_pos h, sf_bt2 e he]
    exact ⟨fun z => ⟨of_decide_eq_true z, h⟩, fun z => decide_eq_true z.1⟩
  · rw [if_neg h, b_0]
    exact ⟨fun z => (nomatch z), fun z => absurd z.2 h⟩
def sf_fit (nv c : Nat) (K A L0 : Nat → Int32) (e m : Nat) : Prop := (∀ i, i < nv → bt (L0 i) e = true → m.testBit i = true) ∧ sf_CL K A c (sf_Lm e m)
theorem sf_mk (g : Nat → Bool) : ∀ n, ∃ m, m < 2 ^ n ∧ ∀ i, i < n → m.testBit i = g i := by
  intro n
  induction n with
  | zero => exact ⟨0, by decide, fun i hi => absurd hi (by omega)⟩
  | succ n ih =>
    obtain ⟨m, h1, h2⟩ := ih
    have pw : 2 ^ (n + 1) = 2 ^ n + 2 ^ n := by rw [Nat.pow_succ]; omega
    cases e : g n with
    | false =>
      refine ⟨m, by omega, fun i hi => ?_⟩
      rcases Nat.lt_or_ge i n with z | z
      · exact h2 i z
      · have : i = n := by omega
        subst this
        rw [e]; exact Nat.testBit_lt_two_pow h1
    | true =>
      refine ⟨2 ^ n + m, by omega, fun i hi => ?_⟩
      rcases Nat.lt_or_ge i n with z | z
      · rw [Nat.testBit_two_pow_add_gt z]; exact h2 i z
      · have : i = n := by omega
        subst this
        rw [Nat.testBit_two_pow_add_eq, Nat.testBit_lt_two_pow h1, e]; rfl
theorem sf_bits_le {n m m' : Nat} (hm : m < 2 ^ n) (h : ∀ i, i < n → m.testBit i = true → m'.testBit i = true) : m ≤ m' := by
  have e : m &&& m' = m := by
    refine Nat.eq_of_testBit_eq fun i => ?_
    rw [Nat.testBit_and]
    cases z : m.testBit i with
    | false => rfl
    | true =>
      have hi : i < n := by
        rcases Nat.lt_or_ge i n with y | y
        · exact y
        · have := Nat.testBit_lt_two_pow (Nat.lt_of_lt_of_le hm (Nat.pow_le_pow_right (by decide) y))
          rw [this] at z; exact (nomatch z)
      rw [h i hi z]; rfl
  rw [← e]
  exact Nat.and_le_right
/-- the first fitting set is the bit of the least closed labelling -/
theorem sf_first {L0 LX : Nat → Int32} (ha : ∀ i, i < c → K i = 2 → (A i).toNatClampNeg < nv) (hs : ∀ i, i < c → K i = 6 → (A i).toNatClampNeg < nv) (X : sf_LX nv c K A L0 LX) (XC : sf_CL K A c LX) (h0 : sf_LB nv L0) {e : Nat} (he : e < 2) :
    ∃ m, m < 2 ^ nv ∧ sf_fit nv c K A L0 e m ∧ (∀ j, j < m → ¬ sf_fit nv c K A L0 e j) ∧ ∀ i, i < nv → m.testBit i = bt (LX i) e := by
  obtain ⟨m, m1, m2⟩ := sf_mk (fun i => bt (LX i) e) nv
  refine ⟨m, m1, ⟨fun i hi hb => ?_, fun p hp hk b hb => ?_⟩, fun j hj F => ?_, m2⟩
  · rw [m2 i hi]; exact X.1 i hi e hb
  · obtain ⟨S, s1, s2⟩ := sf_lin_fw (nv := nv) hp ha
    obtain ⟨x, x1, x2⟩ := (s2 _ b).mp hb
    obtain ⟨y1, y2⟩ := (sf_bt_Lm he).mp x2
    rw [m2 x (s1 x x1)] at y2
    have := XC p hp hk e ((s2 LX e).mpr ⟨x, x1, y2⟩)
    rw [← m2 _ (hs p hp hk)] at this
    exact (sf_bt_Lm he).mpr ⟨y1, this⟩
  · have := X.2 (fun i => sf_Lm e j i ||| nI (2 ^ (1 - e))) (fun i hi b hb => ?_) (fun p hp hk b hb => ?_)
    · have := sf_bits_le m1 (m' := j) (fun i hi z => ?_)
      · omega
      · rw [m2 i hi] at z
        have q := this i hi e z
        rcases sf_bt_or.mp q with y | y
        · exact ((sf_bt_Lm he).mp y).2
        · rw [sf_bt2 (1 - e) (by omega)] at y
          have := of_decide_eq_true y
          omega
    · refine sf_bt_or.mpr ?_
      rcases Nat.lt_or_ge b 2 with z | z
      · by_cases y : b = e
        · subst y; exact Or.inl ((sf_bt_Lm he).mpr ⟨rfl, F.1 i hi hb⟩)
        · refine Or.inr ?_
          rw [sf_bt2 (1 - e) (by omega)]; exact decide_eq_true (by omega)
      · rw [h0 i hi b z] at hb; exact (nomatch hb)
    · obtain ⟨S, s1, s2⟩ := sf_lin_fw (nv := nv) hp ha
      obtain ⟨x, x1, x2⟩ := (s2 _ b).mp hb
      refine sf_bt_or.mpr ?_
      rcases sf_bt_or.mp x2 with y | y
      · exact Or.inl (F.2 p hp hk b ((s2 _ b).mpr ⟨x, x1, y⟩))
      · exact Or.inr y
/-! counting label bits -/
def sf_b2 (x : Int32) : Nat := (if bt x 0 = true then 1 else 0) + (if bt x 1 = true then 1 else 0)
def sf_mu (L : Nat → Int32) : Nat → Nat
  | 0 => 0
  | n + 1 => sf_mu L n + sf_b2 (L n)
theorem sf_b2_le (x : Int32) : sf_b2 x ≤ 2 := by
  unfold sf_b2
  split <;> split <;> omega
theorem sf_mu_le {L : Nat → Int32} : ∀ n, sf_mu L n ≤ 2 * n := by
  intro n
  induction n with
  | zero => exact Nat.le_refl _
  | succ n ih =>
    have := sf_b2_le (L n)
    show sf_mu L n + sf_b2 (L n) ≤ _
    omega
theorem sf_b2_mono {x y : Int32} (h : sf_sub x y) : sf_b2 x ≤ sf_b2 y := by
  unfold sf_b2
  have h0 := h 0
  have h1 := h 1
  by_cases a : bt x 0 = true
  · rw [if_pos a, if_pos (h0 a)]
    by_cases b : bt x 1 = true
    · rw [if_pos b, if_pos (h1 b)]; exact Nat.le_refl _
    · rw [if_neg b]; omega
  · rw [if_neg a]
    by_cases b : bt x 1 = true
    · rw [if_pos b, if_pos (h1 b)]; omega
    · rw [if_neg b]; omega
theorem sf_b2_lt {x y : Int32} (h : sf_sub x y) {b : Nat} (hb : b < 2) (h1 : bt y b = true) (h0 : bt x b = false) : sf_b2 x < sf_b2 y := by
  unfold sf_b2
  have g0 := h 0
  have g1 := h 1
  have hb' : b = 0 ∨ b = 1 := by omega
  rcases hb' with z | z
  · subst z
    rw [if_neg (by rw [h0]; decide), if_pos h1]
    by_cases a : bt x 1 = true
    · rw [if_pos a, if_pos (g1 a)]; omega
    · rw [if_neg a]; omega
  · subst z
    rw [if_neg (c := bt x 1 = true) (by rw [h0]; decide), if_pos (c := bt y 1 = true) h1]
    by_cases a : bt x 0 = true
    · rw [if_pos a, if_pos (g0 a)]; omega
    · rw [if_neg a]; omega
theorem sf_mu_lt {L M : Nat → Int32} {i b : Nat} (hb : b < 2) (h1 : bt (M i) b = true) (h0 : bt (L i) b = false) : ∀ n, i < n → (∀ j, j < n → sf_sub (L j) (M j)) → sf_mu L n < sf_mu M n := by
  intro n
  induction n with
  | zero => intro hi; exact absurd hi (by omega)
  | succ n ih =>
    intro hi hs
    show sf_mu L n + sf_b2 (L n) < sf_mu M n + sf_b2 (M n)
    rcases Nat.lt_or_ge i n with z | z
    · have := ih z (fun j hj => hs j (by omega))
      have := sf_b2_mono (hs n (by omega))
      omega
    · have : i = n := by omega
      subst this
      have := sf_b2_lt (hs i (by omega)) hb h1 h0
      have mono : ∀ n, (∀ j, j < n → sf_sub (L j) (M j)) → sf_mu L n ≤ sf_mu M n := by
        intro n
        induction n with
        | zero => intro _; exact Nat.le_refl _
        | succ n ih2 =>
          intro h
          have := ih2 (fun j hj => h j (by omega))
          have := sf_b2_mono (h n (by omega))
          show sf_mu L n + sf_b2 (L n) ≤ sf_mu M n + sf_b2 (M n)
          omega
      have := mono i (fun j hj => hs j (by omega))
      omega
end
end
section
/-! the component: raise -/
def sf_RI (nv c : Nat) (K A L0 Lc : Nat → Int32) (x1 : Int32) (p : Nat) : Prop :=
  (∀ i, i < nv → sf_sub (L0 i) (Lc i)) ∧ (∀ i, nv ≤ i → Lc i = L0 i) ∧ (∀ M, (∀ i, i < nv → sf_sub (L0 i) (M i)) → sf_CL K A c M → ∀ i, i < nv → sf_sub (Lc i) (M i)) ∧
  ((x1 = 0 ∧ Lc = L0 ∧ ∀ i, i < p → K i = 6 → sf_sub (sf_fw L0 K A c i) (L0 (A i).toNatClampNeg)) ∨ (x1 = 1 ∧ ∃ i b, i < nv ∧ bt (Lc i) b = true ∧ bt (L0 i) b = false))
def sf_cn (f g : Nat → Int32) : Nat → Nat
  | 0 => 0
  | n + 1 => sf_cn f g n + (if f n = g n then 0 else 1)
theorem sf_cn_congr {f g f' g' : Nat → Int32} : ∀ n, (∀ i, i < n → f i = f' i ∧ g i = g' i) → sf_cn f g n = sf_cn f' g' n := by
  intro n
  induction n with
  | zero => intro _; rfl
  | succ n ih =>
    intro h
    show sf_cn f g n + (if f n = g n then 0 else 1) = sf_cn f' g' n + (if f' n = g' n then 0 else 1)
    rw [ih fun i hi => h i (by omega), (h n (by omega)).1, (h n (by omega)).2]
theorem sf_cn_le {f g : Nat → Int32} : ∀ n, sf_cn f g n ≤ n := by
  intro n
  induction n with
  | zero => exact Nat.le_refl _
  | succ n ih =>
    show sf_cn f g n + (if f n = g n then 0 else 1) ≤ n + 1
    split <;> omega
section
variable {xv xt xo xc xs xf xr xp xl xn xq xy xd xe xw xk xj xh xz : Int32} {K A L aI aS M oL oC oV kS kM kC kV cO cA cT cE oP bK bB bL sT rE rO fL : Nat → Int32}
variable {nv c : Nat}
theorem sf_RI_next {L0 : Nat → Int32} {x1 : Int32} {p p' : Nat} (h : sf_RI nv c K A L0 L x1 p) (hn : ∀ i, p ≤ i → i < p' → K i ≠ 6) : sf_RI nv c K A L0 L x1 p' := by
  obtain ⟨a, b, d, e⟩ := h
  refine ⟨a, b, d, e.imp (fun ⟨e1, e2, e3⟩ => ⟨e1, e2, fun i hi hk => ?_⟩) id⟩
  rcases Nat.lt_or_ge i p with z | z
  · exact e3 i z hk
  · exact absurd hk (hn i z hi)
theorem sf_x_roK {post : Int32 → SX → Prop} {x1 : Int32} {nn b : Nat} (hb : b ≤ nn) (hn : nn ≤ 128) : ∀ (m a n : Nat), a + m = b → (∀ j, a ≤ j → j < b → cO j ≠ 6) → wX_raiseOnce_8 post xv xt xo xc xs xf xr xp xl (nI nn) xq xy xd xe xw xk xj xh xz n x1 (nI b) K A L aI aS M oL oC oV kS kM kC kV cO cA cT cE oP bK bB bL sT rE rO fL → wX_raiseOnce_8 post xv xt xo xc xs xf xr xp xl (nI nn) xq xy xd xe xw xk xj xh xz (n + m) x1 (nI a) K A L aI aS M oL oC oV kS kM kC kV cO cA cT cE oP bK bB bL sT rE rO fL := by
  intro m
  induction m with
  | zero =>
    intro a n hab _ h
    have : a = b := by omega
    subst this; exact h
  | succ m ih =>
    intro a n hab hne h
    have q := hne a (Nat.le_refl _) (by omega)
    exact br_f (nI_ge (by omega) (by omega)) (And.intro (vp_in_nI (by omega) (by omega)) (br_f (by rw [nI_clamp (by omega)]; exact q) (nm_r (nI_1 a) (ih (a + 1) n (by omega) (fun j x y => hne j (by omega) y) h))))
theorem sf_x_ro8 {post : Int32 → SX → Prop} {L0 : Nat → Int32} (C : sf_CM nv c K A xn cO cA cT cE) (hc : c ≤ 96) (hT : ∀ i, i < c → sf_TV nv (K i) (A i)) (hnv : nv ≤ 8) (hfl : ∀ i, i < c → sf_b (K i) → fL i = sf_fw L0 K A c i)
    (h : ∀ L x1, sf_RI nv c K A L0 L x1 c → post x1 (xv, xt, xo, xc, xs, xf, xr, xp, xl, xn, xq, xy, xd, xe, xw, xk, xj, xh, xz, K, A, L, aI, aS, M, oL, oC, oV, kS, kM, kC, kV, cO, cA, cT, cE, oP, bK, bB, bL, sT, rE, rO, fL)) :
    ∀ (m p n : Nat) (L : Nat → Int32) (x1 : Int32), c - p < m → sf_BD K c p → p ≤ c → sf_ad K c + 1 - sf_ad K p < n → sf_RI nv c K A L0 L x1 p → wX_raiseOnce_8 post xv xt xo xc xs xf xr xp xl xn xq xy xd xe xw xk xj xh xz n x1 (nI (sf_ad K p)) K A L aI aS M oL oC oV kS kM kC kV cO cA cT cE oP bK bB bL sT rE rO fL := by
  obtain ⟨hxn, CF, Cb, CD, C0⟩ := C
  have C : sf_CM nv c K A xn cO cA cT cE := ⟨hxn, CF, Cb, CD, C0⟩
  have adc := sf_ad_le (K := K) c
  have ha2 : ∀ i, i < c → K i = 2 → (A i).toNatClampNeg < nv := fun i hi k => (sf_cl ((hT i hi).2.1 k) (by omega)).1
  subst hxn
  intro m
  induction m with
  | zero => intro p n L x1 hm; exact absurd hm (by omega)
  | succ m ih =>
    intro p n L x1 hm hbd hpc hn hri
    rcases hbd with z | ⟨hpp, h6⟩
    · subst z
      obtain ⟨n, rfl⟩ : ∃ k, n = (k + 1) + 1 := ⟨n - 2, by omega⟩
      refine sf_x_roK (b := sf_ad K p + 1) (by omega) (by omega) 1 (sf_ad K p) (n + 1) (by omega) (fun j x y => ?_) ?_
      · have : j = sf_ad K p := by omega
        subst this; rw [C0]; decide
      · refine br_t (nI_le (Nat.le_refl _) (by omega)) (And.intro ?_ (h L x1 hri))
        rcases hri.2.2.2 with y | y
        · rw [y.1]; rfl
        · rw [y.1]; rfl
    · obtain ⟨l1, l2, l3, l4⟩ := sf_CM_nb C hpp h6
      have nbc : sf_nb K c p ≤ c := (CD.2.2.2.2.2.1 p hpp h6).1
      by_cases hb : sf_b (K p)
      · obtain ⟨b1, b2, b3, b4, b5, b6, b7, b8⟩ := CD.1 p hpp hb
        have hhd : sf_hd K p ≤ sf_ti K c p := b4.1
        have mid : ∀ i, p + 1 ≤ i → i < sf_nb K c p → K i ≠ 6 := fun i x y z => (sf_e9_six (sf_CM_mid C hpp hb (by omega) y)).2.1 (Or.inl z)
        have pre : ∀ j, sf_ad K p ≤ j → j < sf_ti K c p → cO j ≠ 6 := by
          intro j x y
          rcases Nat.lt_or_ge j (sf_hd K p) with z | z
          · have k12 : K p = 12 := by
              by_cases k : K p = 12
              · exact k
              · have hd : sf_hd K p = sf_ad K p := by unfold sf_hd; rw [if_neg k]; rfl
                omega
            have hd : sf_hd K p = sf_ad K p + 1 := by unfold sf_hd; rw [if_pos k12]
            have : j = sf_ad K p := by omega
            subst this
            rw [(b1 k12).1]; decide
          · rcases b4.2.1 j z y with q | q | q
            · rw [q]; decide
            · rw [q.1]; decide
            · rw [q]; decide
        have hda : sf_ad K p ≤ sf_hd K p := by unfold sf_hd; omega
        obtain ⟨n2, rfl⟩ : ∃ k, n = (k + 1) + (sf_ti K c p - sf_ad K p) := ⟨n - 1 - (sf_ti K c p - sf_ad K p), by omega⟩
        refine sf_x_roK (b := sf_ti K c p) (by omega) (by omega) _ (sf_ad K p) (n2 + 1) (by omega) pre ?_
        have I : ∀ L x1, sf_RI nv c K A L0 L x1 (p + 1) → wX_raiseOnce_8 post xv xt xo xc xs xf xr xp xl (nI (sf_ad K c + 1)) xq xy xd xe xw xk xj xh xz n2 x1 (nI (sf_ti K c p + 1)) K A L aI aS M oL oC oV kS kM kC kV cO cA cT cE oP bK bB bL sT rE rO fL := by
          intro L x1 hr
          have := ih (sf_nb K c p) n2 L x1 (by omega) l2 nbc (by omega) (sf_RI_next hr mid)
          rw [← b8] at this; exact this
        by_cases k6 : K p = 6
        · have g : ¬ sf_g (K p) := by rw [k6]; decide
          have a7 := b7 g
          rw [if_neg g, k6] at b5
          have cl : (nI (sf_ti K c p)).toNatClampNeg = sf_ti K c p := nI_clamp (by omega)
          have clp : (nI p).toNatClampNeg = p := nI_clamp (by omega)
          have hv : vp_in (nI (sf_ti K c p)) 128 := vp_in_nI (by omega) (by omega)
          have hvA := (hT p hpp).2.2.2.1 k6
          have hA8 : vp_in (A p) 8 := sf_in8 hvA hnv (by omega)
          have ht := (sf_cl hvA (by omega)).1
          obtain ⟨r1, r2, r3, r4⟩ := hri
          refine br_f (nI_ge (by omega) (by omega)) (And.intro hv (br_t (by rw [cl]; exact b5) (And.intro hv (nm_r (e' := A p) (by rw [cl]; exact a7) (And.intro hv (And.intro (by rw [cl, b6]; exact vp_in_nI (by omega) (by omega)) (nm_r (e' := sf_fw L0 K A c p) (by rw [cl, b6, clp]; exact hfl p hpp hb) (And.intro hA8 (sf_x_below (fun z => br_f (by decide) (nm_r (nI_1 _) (I L x1 ?_))) (fun z => br_t rfl (And.intro hA8 (And.intro hA8 (nm_e (nm_r (nI_1 _) (I _ 1 ?_)))))))))))))))
          · refine ⟨r1, r2, r3, r4.imp (fun ⟨e1, e2, e3⟩ => ⟨e1, e2, fun i hi hk => ?_⟩) id⟩
            rcases Nat.lt_or_ge i p with y | y
            · exact e3 i y hk
            · have : i = p := by omega
              subst this
              rw [e2] at z
              exact sf_sub_iff.mp z
          · have nz : ¬ sf_sub (sf_fw L0 K A c p) (L (A p).toNatClampNeg) := fun y => z (sf_sub_iff.mpr y)
            have wit : ∃ b, bt (sf_fw L0 K A c p) b = true ∧ bt (L (A p).toNatClampNeg) b = false := by
              refine Classical.byContradiction fun hh => nz fun b hb' => ?_
              cases e : bt (L (A p).toNatClampNeg) b with
              | true => rfl
              | false => exact absurd ⟨b, hb', e⟩ hh
            obtain ⟨b, w1, w2⟩ := wit
            refine ⟨fun i hi => ?_, fun i hi => ?_, fun M hM hcl i hi => ?_, Or.inr ⟨rfl, (A p).toNatClampNeg, b, ht, ?_, ?_⟩⟩
            · by_cases e : i = (A p).toNatClampNeg
              · subst e; rw [pk_us]; exact fun b hb' => sf_bt_or.mpr (Or.inl (r1 _ hi b hb'))
              · rw [pk_un e]; exact r1 i hi
            · rw [pk_un (by omega)]; exact r2 i hi
            · by_cases e : i = (A p).toNatClampNeg
              · subst e
                rw [pk_us]
                intro b hb'
                rcases sf_bt_or.mp hb' with y | y
                · exact r3 M hM hcl _ hi b y
                · exact hcl p hpp k6 b (sf_lin_mono (sf_lin_fw hpp ha2) hM b y)
              · rw [pk_un e]; exact r3 M hM hcl i hi
            · rw [pk_us]; exact sf_bt_or.mpr (Or.inr w1)
            · cases e : bt (L0 (A p).toNatClampNeg) b with
              | false => rfl
              | true =>
                have := r1 _ ht b e
                rw [w2] at this; exact (nomatch this)
        · have o6 : cO (sf_ti K c p) ≠ 6 := by
            rw [b5]
            by_cases g : sf_g (K p)
            · rw [if_pos g]; decide
            · rw [if_neg g]; exact k6
          refine br_f (nI_ge (by omega) (by omega)) (And.intro (vp_in_nI (by omega) (by omega)) (br_f (by rw [nI_clamp (by omega)]; exact o6) (nm_r (nI_1 _) (I L x1 (sf_RI_next hri fun i x y => ?_)))))
          have : i = p := by omega
          subst this; exact k6
      · have nb1 : sf_nb K c p = p + 1 := sf_nb_n hb
        rw [nb1] at l2 nbc l4
        have hri' : sf_RI nv c K A L0 L x1 (p + 1) := sf_RI_next hri fun i x y z => by
          have : i = p := by omega
          subst this; exact hb (Or.inl z)
        have I := fun n hh => ih (p + 1) n L x1 (by omega) l2 nbc hh hri'
        have cwl := sf_cw_le K p
        have ads := sf_ad_s (K := K) (p := p)
        rcases Nat.eq_zero_or_pos (sf_cw K p) with z | z
        · rw [ads, z] at I
          exact I n (by omega)
        · have z1 : sf_cw K p = 1 := by omega
          have o : cO (sf_ad K p) ≠ 6 := by
            by_cases k10 : K p = 10
            · rw [CD.2.1 p hpp k10]; decide
            · have k11 : K p = 11 := by
                rcases h6 with y | y | y | y | y | y
                · exact absurd (Or.inl y) hb
                · exact absurd (Or.inr (Or.inl y)) hb
                · exact absurd (Or.inr (Or.inr (Or.inl y))) hb
                · exact absurd y k10
                · exact y
                · exact absurd (Or.inr (Or.inr (Or.inr y))) hb
              cases e : sf_BK K p with
              | nil => exact absurd e (sf_FT_11 (CF p hpp) k11)
              | cons x B =>
                obtain ⟨o, s⟩ := x
                have ko : K o = 12 := by
                  have q := sf_cw_E k11 e
                  by_cases ko : K o = 12
                  · exact ko
                  · rw [if_neg ko] at q; omega
                rw [(CD.2.2.1 p hpp k11 o s B e ko).1]; decide
          rw [ads, z1] at I
          obtain ⟨n, rfl⟩ : ∃ k, n = k + 1 := ⟨n - 1, by omega⟩
          refine sf_x_roK (b := sf_ad K p + 1) (by omega) (by omega) 1 (sf_ad K p) n (by omega) (fun j x y => ?_) (I n (by omega))
          have : j = sf_ad K p := by omega
          subst this; exact o
theorem sf_x_raiseOnce {post : Int32 → SX → Prop} (C : sf_CM nv c K A xn cO cA cT cE) (hc : c ≤ 96) (hT : ∀ i, i < c → sf_TV nv (K i) (A i)) (hnv : nv ≤ 8)
    (h : ∀ Lc x1 sT rE rO fL, sf_RI nv c K A L Lc x1 c → post x1 (xv, xt, xo, xc, xs, xf, xr, xp, xl, xn, xq, xy, xd, xe, xw, xk, xj, xh, 0, K, A, Lc, aI, aS, M, oL, oC, oV, kS, kM, kC, kV, cO, cA, cT, cE, oP, bK, bB, bL, sT, rE, rO, fL)) : wpX_raiseOnce post (xv, xt, xo, xc, xs, xf, xr, xp, xl, xn, xq, xy, xd, xe, xw, xk, xj, xh, xz, K, A, L, aI, aS, M, oL, oC, oV, kS, kM, kC, kV, cO, cA, cT, cE, oP, bK, bB, bL, sT, rE, rO, fL) := by
  unfold wpX_raiseOnce
  refine sf_x_analyse (xz := xz) C hc hnv fun sT rE rO fL hfl => ⟨sf_ad K c + 2, ?_⟩
  exact sf_x_ro8 C hc hT hnv hfl (fun Lc x1 hr => h Lc x1 sT rE rO fL hr) (c + 1) 0 (sf_ad K c + 2) L 0 (by omega) (sf_CM_0 C) (by omega) (by show sf_ad K c + 1 - 0 < _; omega) ⟨fun i _ => sf_sub_refl _, fun i _ => rfl, fun M hM _ => hM, Or.inl ⟨rfl, rfl, fun i hi => absurd hi (by omega)⟩⟩
theorem sf_x_ra66 {post : Int32 → SX → Prop} (hnv : nv ≤ 8) (h : post (nI (sf_cn L oL nv)) ((nI nv), xt, xo, xc, 1, (-1), 0, xp, xl, xn, xq, xy, xd, xe, xw, xk, xj, xh, xz, K, A, L, aI, aS, M, oL, oC, oV, kS, kM, kC, kV, cO, cA, cT, cE, oP, bK, bB, bL, sT, rE, rO, fL)) : ∀ (m i n : Nat), i + m = nv → m < n → wX_raise_66 post (nI nv) xt xo xc xs xf xr xp xl xn xq xy xd xe xw xk xj xh xz K A L aI aS M oL oC oV kS kM kC kV cO cA cT cE oP bK bB bL sT rE rO fL n (nI (sf_cn L oL i)) (nI i) := by
  intro m
  induction m with
  | zero =>
    intro i n hi hn
    obtain ⟨n, rfl⟩ : ∃ k, n = k + 1 := ⟨n - 1, by omega⟩
    have : i = nv := by omega
    subst this
    exact br_t (nI_le (Nat.le_refl _) (by omega)) h
  | succ m ih =>
    intro i n hi hn
    obtain ⟨n, rfl⟩ : ∃ k, n = k + 1 := ⟨n - 1, by omega⟩
    have cl : (nI i).toNatClampNeg = i := nI_clamp (by omega)
    have hv : vp_in (nI i) 8 := vp_in_nI (by omega) (by omega)
    have I := ih (i + 1) n (by omega) (by omega)
    have e1 : sf_cn L oL (i + 1) = sf_cn L oL i + (if L i = oL i then 0 else 1) := rfl
    refine br_f (nI_ge (by omega) (by omega)) (And.intro hv (And.intro hv ?_))
    by_cases z : L i = oL i
    · rw [e1, if_pos z] at I
      exact br_t (by rw [cl]; exact z) (nm_r (nI_1 i) I)
    · rw [e1, if_neg z] at I
      exact br_f (by rw [cl]; exact z) (nm_r (nI_1 _) (nm_r (nI_1 i) I))
theorem sf_x_ra41 {post : Int32 → SX → Prop} {L0 : Nat → Int32} (C : sf_CM nv c K A xn cO cA cT cE) (hc : c ≤ 96) (hT : ∀ i, i < c → sf_TV nv (K i) (A i)) (hnv : nv ≤ 8) (hLB : sf_LB nv L0) (hoL : ∀ i, i < nv → oL i = L0 i)
    (h : ∀ L sT rE rO fL xz, sf_LX nv c K A L0 L → sf_CL K A c L → (∀ i, nv ≤ i → L i = L0 i) → post (nI (sf_cn L L0 nv)) ((nI nv), xt, xo, xc, 1, (-1), 0, xp, xl, xn, xq, xy, xd, xe, xw, xk, xj, xh, xz, K, A, L, aI, aS, M, oL, oC, oV, kS, kM, kC, kV, cO, cA, cT, cE, oP, bK, bB, bL, sT, rE, rO, fL)) :
    ∀ (m ps n : Nat) (x1 : Int32) (L sT rE rO fL : Nat → Int32) (xz : Int32), ps + m = 17 → m < n → sf_LX nv c K A L0 L → (∀ i, nv ≤ i → L i = L0 i) → ((x1 = 1 ∧ ps ≤ sf_mu L nv) ∨ (x1 = 0 ∧ sf_CL K A c L)) → wX_raise_41 post n x1 (nI ps) (nI nv) xt xo xc xs xf xr xp xl xn xq xy xd xe xw xk xj xh xz K A L aI aS M oL oC oV kS kM kC kV cO cA cT cE oP bK bB bL sT rE rO fL := by
  have ha2 : ∀ i, i < c → K i = 2 → (A i).toNatClampNeg < nv := fun i hi k => (sf_cl ((hT i hi).2.1 k) (by omega)).1
  have fin : ∀ (L sT rE rO fL : Nat → Int32) (xz : Int32), sf_LX nv c K A L0 L → (∀ i, nv ≤ i → L i = L0 i) → sf_CL K A c L → ∃ n66 : Nat, wX_raise_66 post (nI nv) xt xo xc xs xf xr xp xl xn xq xy xd xe xw xk xj xh xz K A L aI aS M oL oC oV kS kM kC kV cO cA cT cE oP bK bB bL sT rE rO fL n66 0 0 := by
    intro L sT rE rO fL xz hx hr hcl
    refine ⟨nv + 1, sf_x_ra66 hnv ?_ nv 0 (nv + 1) (by omega) (by omega)⟩
    rw [sf_cn_congr (f' := L) (g' := L0) nv fun i hi => ⟨rfl, hoL i hi⟩]
    exact h L sT rE rO fL xz hx hcl hr
  intro m
  induction m with
  | zero =>
    intro ps n x1 L sT rE rO fL xz hps hn hx hr hI
    obtain ⟨n, rfl⟩ : ∃ k, n = k + 1 := ⟨n - 1, by omega⟩
    have mu := sf_mu_le (L := L) nv
    have hcl : sf_CL K A c L := by
      rcases hI with y | y
      · have := y.2; omega
      · exact y.2
    exact br_t (nI_lt (a := 16) (by omega) (by omega)) (fin L sT rE rO fL xz hx hr hcl)
  | succ m ih =>
    intro ps n x1 L sT rE rO fL xz hps hn hx hr hI
    obtain ⟨n, rfl⟩ : ∃ k, n = k + 1 := ⟨n - 1, by omega⟩
    refine br_f (nI_nlt (b := ps) (a := 16) (by omega) (by omega)) ?_
    rcases hI with ⟨y1, y2⟩ | ⟨y1, y2⟩
    · subst y1
      refine br_f (by decide) (sf_x_raiseOnce C hc hT hnv fun Lc x1 sT rE rO fL RI => nm_r (nI_1 ps) ?_)
      obtain ⟨r1, r2, r3, r4⟩ := RI
      have hx' : sf_LX nv c K A L0 Lc := ⟨fun i hi b hb => r1 i hi b (hx.1 i hi b hb), fun M hM hcl => r3 M (hx.2 M hM hcl) hcl⟩
      refine ih (ps + 1) n x1 Lc sT rE rO fL 0 (by omega) (by omega) hx' (fun i hi => (r2 i hi).trans (hr i hi)) ?_
      rcases r4 with ⟨e1, e2, e3⟩ | ⟨e1, i, b, e2, e3, e4⟩
      · subst e2
        exact Or.inr ⟨e1, e3⟩
      · refine Or.inl ⟨e1, ?_⟩
        have lb := sf_LX_LB hx' ha2 hLB
        have hb : b < 2 := by
          rcases Nat.lt_or_ge b 2 with z | z
          · exact z
          · rw [lb i e2 b z] at e3; exact (nomatch e3)
        have := sf_mu_lt hb e3 e4 nv e2 r1
        omega
    · subst y1
      exact br_t rfl (fin L sT rE rO fL xz hx hr y2)
theorem sf_x_ra11 {post : Int32 → SX → Prop} (hnv : nv ≤ 8) (h : ∀ oL, (∀ j, j < nv → oL j = L j) → ∃ n41 : Nat, wX_raise_41 post n41 1 0 (nI nv) xt xo xc xs xf xr xp xl xn xq xy xd xe xw xk xj xh xz K A L aI aS M oL oC oV kS kM kC kV cO cA cT cE oP bK bB bL sT rE rO fL) :
    ∀ (m i n : Nat) (oL : Nat → Int32), i + m = nv → m < n → (∀ j, j < i → oL j = L j) → wX_raise_11 post (nI nv) xt xo xc xs xf xr xp xl xn xq xy xd xe xw xk xj xh xz n (nI i) K A L aI aS M oL oC oV kS kM kC kV cO cA cT cE oP bK bB bL sT rE rO fL := by
  intro m
  induction m with
  | zero =>
    intro i n oL hi hn ho
    obtain ⟨n, rfl⟩ : ∃ k, n = k + 1 := ⟨n - 1, by omega⟩
    have : i = nv := by omega
    subst this
    exact br_t (nI_le (Nat.le_refl _) (by omega)) (h oL ho)
  | succ m ih =>
    intro i n oL hi hn ho
    obtain ⟨n, rfl⟩ : ∃ k, n = k + 1 := ⟨n - 1, by omega⟩
    have cl : (nI i).toNatClampNeg = i := nI_clamp (by omega)
    have hv : vp_in (nI i) 8 := vp_in_nI (by omega) (by omega)
    refine br_f (nI_ge (by omega) (by omega)) (And.intro hv (And.intro hv (nm_r (e' := upd oL i (L i)) (by rw [cl]) (nm_r (nI_1 i) (ih (i + 1) n _ (by omega) (by omega) fun j hj => ?_)))))
    rcases Nat.lt_or_ge j i with z | z
    · rw [pk_un (by omega)]; exact ho j z
    · have : j = i := by omega
      subst this; exact pk_us
theorem sf_x_raise {post : Int32 → SX → Prop} (hs : xs ≠ 0) (C : sf_CM nv c K A xn cO cA cT cE) (hc : c ≤ 96) (hT : ∀ i, i < c → sf_TV nv (K i) (A i)) (hnv : nv ≤ 8) (hLB : sf_LB nv L)
    (h : ∀ LX oL sT rE rO fL xz, sf_LX nv c K A L LX → sf_CL K A c LX → (∀ i, nv ≤ i → LX i = L i) → post (nI (sf_cn LX L nv)) ((nI nv), xt, xo, xc, 1, (-1), 0, xp, xl, xn, xq, xy, xd, xe, xw, xk, xj, xh, xz, K, A, LX, aI, aS, M, oL, oC, oV, kS, kM, kC, kV, cO, cA, cT, cE, oP, bK, bB, bL, sT, rE, rO, fL)) : wpX_raise post ((nI nv), xt, xo, xc, xs, xf, xr, xp, xl, xn, xq, xy, xd, xe, xw, xk, xj, xh, xz, K, A, L, aI, aS, M, oL, oC, oV, kS, kM, kC, kV, cO, cA, cT, cE, oP, bK, bB, bL, sT, rE, rO, fL) := by
  refine br_f hs ⟨nv + 1, sf_x_ra11 hnv (fun oL ho => ⟨18, ?_⟩) nv 0 (nv + 1) oL (by omega) (by omega) fun j hj => absurd hj (by omega)⟩
  exact sf_x_ra41 (L0 := L) C hc hT hnv hLB ho (fun LX sT rE rO fL xz a b d => h LX oL sT rE rO fL xz a b d) 17 0 18 1 L sT rE rO fL xz (by omega) (by omega) ⟨fun i _ => sf_sub_refl _, fun M hM _ => hM⟩ (fun i _ => rfl) (Or.inl ⟨rfl, by omega⟩)
end
end
section
/-! the reference: raise -/
theorem sf_tb {m i : Nat} : m / 2 ^ i % 2 = if m.testBit i = true then 1 else 0 := by
  rw [Nat.testBit_eq_decide_div_mod_eq]
  by_cases h : m / 2 ^ i % 2 = 1
  · rw [if_pos (decide_eq_true h)]; exact h
  · rw [if_neg (by rw [decide_eq_false h]; decide)]; omega
theorem sf_lmv {m i e : Nat} (hm : m < 2 ^ 31) (hi : i < 32) : ((nI m >>> (nI i &&& 31)) &&& 1) * nI (2 ^ e) = sf_Lm e m i := by
  rw [pk_shrN hm _ i (s_l i hi), pk_andN (Nat.lt_of_le_of_lt (Nat.div_le_self _ _) (by omega)) 1 (by decide), pk_mul, show (2 : Nat) ^ 1 = 2 from rfl, sf_tb]
  unfold sf_Lm
  by_cases h : m.testBit i = true
  · rw [if_pos h, if_pos h, Nat.one_mul]
  · rw [if_neg h, if_neg h, Nat.zero_mul]; rfl
theorem sf_lmc {W : Int32} {m i e : Nat} (he : e < 2) : ((W &&& nI (2 ^ e)) &&& (sf_Lm e m i ^^^ (-1))) = 0 ↔ (bt W e = true → m.testBit i = true) := by
  constructor
  · intro h hw
    have q : bt ((W &&& nI (2 ^ e)) &&& (sf_Lm e m i ^^^ (-1))) e = bt 0 e := by rw [h]
    rw [b_and, b_and, b_xor, b_0, hw, sf_bt2 e he, decide_eq_true rfl, b_m1 e (by omega)] at q
    refine ((sf_bt_Lm (e := e) (b := e) he).mp ?_).2
    cases z : bt (sf_Lm e m i) e with
    | true => rfl
    | false => rw [z] at q; exact (nomatch q)
  · intro h
    refine b_ext fun b hb => ?_
    rw [b_and, b_and, b_xor, b_0, sf_bt2 e he, b_m1 b hb]
    by_cases z : b = e
    · subst z
      cases w : bt W b with
      | false => rfl
      | true => rw [(sf_bt_Lm he).mpr ⟨rfl, h w⟩, decide_eq_true rfl]; rfl
    · rw [decide_eq_false z, Bool.and_false, Bool.false_and]
theorem sf_fw_congr {nv c p : Nat} {K A L L' : Nat → Int32} (hp : p < c) (ha : ∀ i, i < c → K i = 2 → (A i).toNatClampNeg < nv) (h : ∀ i, i < nv → L i = L' i) : sf_fw L K A c p = sf_fw L' K A c p := by
  obtain ⟨S, s1, s2⟩ := sf_lin_fw (nv := nv) (K := K) (A := A) hp ha
  refine b_ext fun b _ => ?_
  have : bt (sf_fw L K A c p) b = true ↔ bt (sf_fw L' K A c p) b = true := by
    refine (s2 L b).trans (Iff.trans ?_ (s2 L' b).symm)
    constructor
    · rintro ⟨x, a, d⟩; exact ⟨x, a, by rw [← h x (s1 x a)]; exact d⟩
    · rintro ⟨x, a, d⟩; exact ⟨x, a, by rw [h x (s1 x a)]; exact d⟩
  exact Bool.eq_iff_iff.mpr this
theorem sf_CL_congr {nv c : Nat} {K A L L' : Nat → Int32} (ha : ∀ i, i < c → K i = 2 → (A i).toNatClampNeg < nv) (hs : ∀ i, i < c → K i = 6 → (A i).toNatClampNeg < nv) (h : ∀ i, i < nv → L i = L' i) (hc : sf_CL K A c L) : sf_CL K A c L' := by
  intro p hp hk
  rw [← sf_fw_congr hp ha h, ← h _ (hs p hp hk)]
  exact hc p hp hk
/-- no bad SET: closed -/
theorem sf_FU_CL {c : Nat} {K A L : Nat → Int32} {r : Int32} (h : sf_FU false L K A c 0 r) (hc : c ≤ 96) : (sf_CL K A c L ∧ r = -1) ∨ (¬ sf_CL K A c L ∧ ∃ q, q < c ∧ r = nI q) := by
  rcases h with ⟨e, h⟩ | ⟨q, e, h1, h2, h3, h4⟩
  · refine Or.inl ⟨fun p hp hk => ?_, e⟩
    refine sf_sub_iff.mp (Classical.byContradiction fun z => h p (by omega) hp (Or.inl ⟨hk, z⟩))
  · refine Or.inr ⟨fun hcl => ?_, q, h2, e⟩
    rcases h3 with ⟨k, z⟩ | ⟨_, z, _⟩
    · exact z (sf_sub_iff.mpr (hcl q h2 k))
    · exact (nomatch z)
section
variable {yv yt yo yc ys yf yp yr : Int32} {K A L aI aS M oC oV kS kM kC kV wK wV wS wL : Nat → Int32}
variable {nv c e : Nat}
theorem sf_y_ra193 {post : Int32 → SY → Prop} {LX L0 : Nat → Int32} (hnv : nv ≤ 8) (hwl : ∀ j, j < nv → wL j = LX j) (hws : ∀ j, j < nv → wS j = L0 j) (h : post (nI (sf_cn LX L0 nv)) ((nI nv), yt, yo, yc, 1, (-1), yp, 0, K, A, LX, aI, aS, M, oC, oV, kS, kM, kC, kV, wK, wV, wS, wL)) :
    ∀ (m i n : Nat) (L : Nat → Int32), i + m = nv → m < n → (∀ j, j < i → L j = LX j) → (∀ j, nv ≤ j → L j = LX j) → wY_raise_193 post (nI nv) yt yo yc ys yf yp yr n (nI (sf_cn LX L0 i)) (nI i) K A L aI aS M oC oV kS kM kC kV wK wV wS wL := by
  intro m
  induction m with
  | zero =>
    intro i n L hi hn h1 h2
    obtain ⟨n, rfl⟩ : ∃ k, n = k + 1 := ⟨n - 1, by omega⟩
    have : i = nv := by omega
    subst this
    have e : L = LX := by
      funext j
      rcases Nat.lt_or_ge j i with z | z
      · exact h1 j z
      · exact h2 j z
    subst e
    exact br_t (nI_le (Nat.le_refl _) (by omega)) h
  | succ m ih =>
    intro i n L hi hn h1 h2
    obtain ⟨n, rfl⟩ : ∃ k, n = k + 1 := ⟨n - 1, by omega⟩
    have cl : (nI i).toNatClampNeg = i := nI_clamp (by omega)
    have hv : vp_in (nI i) 8 := vp_in_nI (by omega) (by omega)
    have I := ih (i + 1) n (upd L i (LX i)) (by omega) (by omega) (fun j hj => ?_) (fun j hj => ?_)
    · have e1 : sf_cn LX L0 (i + 1) = sf_cn LX L0 i + (if LX i = L0 i then 0 else 1) := rfl
      refine br_f (nI_ge (by omega) (by omega)) (And.intro hv (And.intro hv (nm_r (e' := upd L i (LX i)) (by rw [cl, hwl i (by omega)]) (And.intro hv (And.intro hv ?_)))))
      rw [cl, pk_us, hws i (by omega)]
      by_cases z : LX i = L0 i
      · rw [e1, if_pos z] at I
        exact br_t z (nm_r (nI_1 i) I)
      · rw [e1, if_neg z] at I
        exact br_f z (nm_r (nI_1 _) (nm_r (nI_1 i) I))
    · rcases Nat.lt_or_ge j i with z | z
      · rw [pk_un (by omega)]; exact h1 j z
      · have : j = i := by omega
        subst this; exact pk_us
    · rw [pk_un (by omega)]; exact h2 j hj
theorem sf_y_ra154 {post : Int32 → SY → Prop} {J : Int32 → (Nat → Int32) → (Nat → Int32) → (Nat → Int32) → (Nat → Int32) → (Nat → Int32) → (Nat → Int32) → (Nat → Int32) → (Nat → Int32) → (Nat → Int32) → (Nat → Int32) → (Nat → Int32) → (Nat → Int32) → (Nat → Int32) → (Nat → Int32) → (Nat → Int32) → (Nat → Int32) → Prop} {b : Nat} {w0 : Nat → Int32} (hnv : nv ≤ 8) (hb : b < 10) (h : ∀ wL, (∀ j, j < nv → wL j = w0 j ||| L j) → J (nI (b + 1)) K A L aI aS M oC oV kS kM kC kV wK wV wS wL) :
    ∀ (m i n : Nat) (wL : Nat → Int32), i + m = nv → m < n → (∀ j, j < i → wL j = w0 j ||| L j) → (∀ j, i ≤ j → j < nv → wL j = w0 j) → wY_raise_154 post J (nI b) (nI nv) yt yo yc ys yf yp yr n (nI i) K A L aI aS M oC oV kS kM kC kV wK wV wS wL := by
  intro m
  induction m with
  | zero =>
    intro i n wL hi hn h1 h2
    obtain ⟨n, rfl⟩ : ∃ k, n = k + 1 := ⟨n - 1, by omega⟩
    have : i = nv := by omega
    subst this
    exact br_t (nI_le (Nat.le_refl _) (by omega)) (nm_r (nI_1 b) (h wL h1))
  | succ m ih =>
    intro i n wL hi hn h1 h2
    obtain ⟨n, rfl⟩ : ∃ k, n = k + 1 := ⟨n - 1, by omega⟩
    have cl : (nI i).toNatClampNeg = i := nI_clamp (by omega)
    have hv : vp_in (nI i) 8 := vp_in_nI (by omega) (by omega)
    refine br_f (nI_ge (by omega) (by omega)) (And.intro hv (And.intro hv (And.intro hv (nm_r (e' := upd wL i (w0 i ||| L i)) (by rw [cl, h2 i (Nat.le_refl _) (by omega)]) (nm_r (nI_1 i) (ih (i + 1) n _ (by omega) (by omega) (fun j hj => ?_) (fun j h3 h4 => ?_)))))))
    · rcases Nat.lt_or_ge j i with z | z
      · rw [pk_un (by omega)]; exact h1 j z
      · have : j = i := by omega
        subst this; exact pk_us
    · rw [pk_un (by omega)]; exact h2 j (by omega) h4
theorem sf_y_ra74 {post : Int32 → SY → Prop} {J46 : Int32 → (Nat → Int32) → (Nat → Int32) → (Nat → Int32) → (Nat → Int32) → (Nat → Int32) → (Nat → Int32) → (Nat → Int32) → (Nat → Int32) → (Nat → Int32) → (Nat → Int32) → (Nat → Int32) → (Nat → Int32) → (Nat → Int32) → (Nat → Int32) → (Nat → Int32) → (Nat → Int32) → Prop} {J55 : Int32 → Int32 → (Nat → Int32) → (Nat → Int32) → (Nat → Int32) → (Nat → Int32) → (Nat → Int32) → (Nat → Int32) → (Nat → Int32) → (Nat → Int32) → (Nat → Int32) → (Nat → Int32) → (Nat → Int32) → (Nat → Int32) → (Nat → Int32) → (Nat → Int32) → (Nat → Int32) → (Nat → Int32) → Prop} {L0 : Nat → Int32} {mm : Nat} (hnv : nv ≤ 8) (hc : c ≤ 96) (hT : ∀ i, i < c → sf_TV nv (K i) (A i)) (he : e < 2) (hmm : mm < 1000) (hws : ∀ j, j < nv → wS j = L0 j)
    (h1 : ∀ L, (∀ j, j < nv → L j = sf_Lm e mm j) → (∀ j, nv ≤ j → L j = L0 j) → sf_fit nv c K A L0 e mm → J55 1 (nI (mm + 1)) K A L aI aS M oC oV kS kM kC kV wK wV wS wL) (h0 : ∀ L, (∀ j, nv ≤ j → L j = L0 j) → ¬ sf_fit nv c K A L0 e mm → J55 0 (nI (mm + 1)) K A L aI aS M oC oV kS kM kC kV wK wV wS wL) :
    ∀ (m i n : Nat) (x2 : Int32) (L : Nat → Int32), i + m = nv → m < n → (∀ j, j < i → L j = sf_Lm e mm j) → (∀ j, nv ≤ j → L j = L0 j) → ((x2 = 1 ∧ ∀ j, j < i → bt (L0 j) e = true → mm.testBit j = true) ∨ (x2 = 0 ∧ ¬ ∀ j, j < nv → bt (L0 j) e = true → mm.testBit j = true)) →
      wY_raise_74 post J46 J55 (nI (2 ^ e)) (nI mm) (nI nv) yt yo (nI c) ys yf yp yr n x2 (nI i) K A L aI aS M oC oV kS kM kC kV wK wV wS wL := by
  have ha2 : ∀ i, i < c → K i = 2 → (A i).toNatClampNeg < nv := fun i hi k => (sf_cl ((hT i hi).2.1 k) (by omega)).1
  have ha6 : ∀ i, i < c → K i = 6 → (A i).toNatClampNeg < nv := fun i hi k => (sf_cl ((hT i hi).2.2.2.1 k) (by omega)).1
  intro m
  induction m with
  | zero =>
    intro i n x2 L hi hn hL hL0 hx
    obtain ⟨n, rfl⟩ : ∃ k, n = k + 1 := ⟨n - 1, by omega⟩
    have : i = nv := by omega
    subst this
    refine br_t (nI_le (Nat.le_refl _) (by omega)) ?_
    rcases hx with ⟨x, y⟩ | ⟨x, y⟩
    · subst x
      obtain ⟨r, hr⟩ := sf_FU_ex false L K A c c 0 (by omega)
      refine br_f (by decide) (sf_y_fu (ou := false) (r := r) rfl hc (fun i hi k => sf_in8 ((hT i hi).2.1 k) hnv (by omega)) (fun i hi k => sf_in8 ((hT i hi).2.2.2.1 k) hnv (by omega)) hr ?_)
      rcases sf_FU_CL hr hc with ⟨q1, q2⟩ | ⟨q1, q, q2, q3⟩
      · subst q2
        exact br_f sf_n1le (nm_r (nI_1 mm) (h1 L hL hL0 ⟨y, sf_CL_congr ha2 ha6 hL q1⟩))
      · subst q3
        exact br_t (nI_pos' (by omega)) (nm_r (nI_1 mm) (h0 L hL0 fun f => q1 (sf_CL_congr ha2 ha6 (fun j hj => (hL j hj).symm) f.2)))
    · subst x
      exact br_t rfl (nm_r (nI_1 mm) (h0 L hL0 fun f => y f.1))
  | succ m ih =>
    intro i n x2 L hi hn hL hL0 hx
    obtain ⟨n, rfl⟩ : ∃ k, n = k + 1 := ⟨n - 1, by omega⟩
    have cl : (nI i).toNatClampNeg = i := nI_clamp (by omega)
    have hv : vp_in (nI i) 8 := vp_in_nI (by omega) (by omega)
    have lv : ((nI mm >>> (nI i &&& 31)) &&& 1) * nI (2 ^ e) = sf_Lm e mm i := sf_lmv (by omega) (by omega)
    have hL' : ∀ j, j < i + 1 → upd L i (sf_Lm e mm i) j = sf_Lm e mm j := by
      intro j hj
      rcases Nat.lt_or_ge j i with z | z
      · rw [pk_un (by omega)]; exact hL j z
      · have : j = i := by omega
        subst this; exact pk_us
    have hL0' : ∀ j, nv ≤ j → upd L i (sf_Lm e mm i) j = L0 j := fun j hj => by rw [pk_un (by omega)]; exact hL0 j hj
    refine br_f (nI_ge (by omega) (by omega)) (And.intro hv (nm_r (e' := upd L i (sf_Lm e mm i)) (by rw [cl, lv]) (And.intro hv (And.intro hv ?_))))
    rw [cl, pk_us, hws i (by omega)]
    by_cases q : bt (L0 i) e = true → mm.testBit i = true
    · refine br_t ((sf_lmc he).mpr q) (nm_r (nI_1 i) (ih (i + 1) n x2 _ (by omega) (by omega) hL' hL0' (hx.imp (fun ⟨x, y⟩ => ⟨x, fun j hj => ?_⟩) id)))
      rcases Nat.lt_or_ge j i with z | z
      · exact y j z
      · have : j = i := by omega
        subst this; exact q
    · exact br_f (fun z => q ((sf_lmc he).mp z)) (nm_r (nI_1 i) (ih (i + 1) n 0 _ (by omega) (by omega) hL' hL0' (Or.inr ⟨rfl, fun y => q (y i (by omega))⟩)))
theorem sf_y_ra55 {post : Int32 → SY → Prop} {J46 : Int32 → (Nat → Int32) → (Nat → Int32) → (Nat → Int32) → (Nat → Int32) → (Nat → Int32) → (Nat → Int32) → (Nat → Int32) → (Nat → Int32) → (Nat → Int32) → (Nat → Int32) → (Nat → Int32) → (Nat → Int32) → (Nat → Int32) → (Nat → Int32) → (Nat → Int32) → (Nat → Int32) → Prop} {L0 w0 : Nat → Int32} {ms : Nat} (hnv : nv ≤ 8) (hc : c ≤ 96) (hT : ∀ i, i < c → sf_TV nv (K i) (A i)) (he : e < 2) (hms : ms < 2 ^ nv) (hfit : sf_fit nv c K A L0 e ms) (hno : ∀ j, j < ms → ¬ sf_fit nv c K A L0 e j) (hws : ∀ j, j < nv → wS j = L0 j) (hw0 : ∀ j, j < nv → wL j = w0 j)
    (h : ∀ L wL, (∀ j, j < nv → wL j = w0 j ||| sf_Lm e ms j) → (∀ j, nv ≤ j → L j = L0 j) → J46 (nI (2 ^ e + 1)) K A L aI aS M oC oV kS kM kC kV wK wV wS wL) :
    ∀ (m mm n : Nat) (L : Nat → Int32), mm + m = ms → m + 1 < n → (∀ j, nv ≤ j → L j = L0 j) → wY_raise_55 post J46 (nI (2 ^ e)) (nI nv) yt yo (nI c) ys yf yp yr n 0 (nI mm) K A L aI aS M oC oV kS kM kC kV wK wV wS wL := by
  have p8 : 2 ^ nv ≤ 256 := by
    have := Nat.pow_le_pow_right (n := 2) (by decide) hnv
    exact this
  have sh : (1 : Int32) <<< (nI nv &&& 31) = nI (2 ^ nv) := by
    have := pk_shlN (n := 1) (nI nv &&& 31) nv (s_l nv (by omega)) (by omega)
    rw [Nat.one_mul] at this; exact this
  have e10 : 2 ^ e < 10 := by
    have : e = 0 ∨ e = 1 := by omega
    rcases this with z | z <;> subst z <;> decide
  have last : ∀ (n : Nat) (L : Nat → Int32), 0 < n → (∀ j, j < nv → L j = sf_Lm e ms j) → (∀ j, nv ≤ j → L j = L0 j) → wY_raise_55 post J46 (nI (2 ^ e)) (nI nv) yt yo (nI c) ys yf yp yr n 1 (nI (ms + 1)) K A L aI aS M oC oV kS kM kC kV wK wV wS wL := by
    intro n L hn hL hL0
    obtain ⟨n, rfl⟩ : ∃ k, n = k + 1 := ⟨n - 1, by omega⟩
    have G : ∃ n154 : Nat, wY_raise_154 post J46 (nI (2 ^ e)) (nI nv) yt yo (nI c) ys yf yp yr n154 0 K A L aI aS M oC oV kS kM kC kV wK wV wS wL := by
      refine ⟨nv + 1, sf_y_ra154 (w0 := w0) hnv e10 (fun wL' hw => h L wL' (fun j hj => ?_) hL0) nv 0 (nv + 1) wL (by omega) (by omega) (fun j hj => absurd hj (by omega)) (fun j _ hj => hw0 j hj)⟩
      rw [hw j hj, hL j hj]
    exact br_c (fun _ => G) fun _ => br_f (by decide) G
  intro m
  induction m with
  | zero =>
    intro mm n L hm hn hL0
    obtain ⟨n, rfl⟩ : ∃ k, n = k + 1 := ⟨n - 1, by omega⟩
    have : mm = ms := by omega
    subst this
    refine br_f (by rw [sh]; exact nI_ge (by omega) (by omega)) (br_t rfl ⟨nv + 1, sf_y_ra74 hnv hc hT he (by omega) hws (fun L a b _ => last n L (by omega) a b) (fun L a f => absurd hfit f) nv 0 (nv + 1) 1 L (by omega) (by omega) (fun j hj => absurd hj (by omega)) hL0 (Or.inl ⟨rfl, fun j hj => absurd hj (by omega)⟩)⟩)
  | succ m ih =>
    intro mm n L hm hn hL0
    obtain ⟨n, rfl⟩ : ∃ k, n = k + 1 := ⟨n - 1, by omega⟩
    refine br_f (by rw [sh]; exact nI_ge (by omega) (by omega)) (br_t rfl ⟨nv + 1, sf_y_ra74 hnv hc hT he (by omega) hws (fun L a b f => absurd f (hno mm (by omega))) (fun L a f => ih (mm + 1) n L (by omega) (by omega) a) nv 0 (nv + 1) 1 L (by omega) (by omega) (fun j hj => absurd hj (by omega)) hL0 (Or.inl ⟨rfl, fun j hj => absurd hj (by omega)⟩)⟩)
theorem sf_y_ra11 {post : Int32 → SY → Prop} (hnv : nv ≤ 8) (h : ∀ wS wL, (∀ j, j < nv → wS j = L j) → (∀ j, j < nv → wL j = 0) → ∃ n46 : Nat, wY_raise_46 post (nI nv) yt yo (nI c) ys yf yp yr n46 1 K A L aI aS M oC oV kS kM kC kV wK wV wS wL) :
    ∀ (m i n : Nat) (wS wL : Nat → Int32), i + m = nv → m < n → (∀ j, j < i → wS j = L j) → (∀ j, j < i → wL j = 0) → wY_raise_11 post (nI nv) yt yo (nI c) ys yf yp yr n (nI i) K A L aI aS M oC oV kS kM kC kV wK wV wS wL := by
  intro m
  induction m with
  | zero =>
    intro i n wS wL hi hn h1 h2
    obtain ⟨n, rfl⟩ : ∃ k, n = k + 1 := ⟨n - 1, by omega⟩
    have : i = nv := by omega
    subst this
    exact br_t (nI_le (Nat.le_refl _) (by omega)) (h wS wL h1 h2)
  | succ m ih =>
    intro i n wS wL hi hn h1 h2
    obtain ⟨n, rfl⟩ : ∃ k, n = k + 1 := ⟨n - 1, by omega⟩
    have cl : (nI i).toNatClampNeg = i := nI_clamp (by omega)
    have hv : vp_in (nI i) 8 := vp_in_nI (by omega) (by omega)
    refine br_f (nI_ge (by omega) (by omega)) (And.intro hv (And.intro hv (nm_r (e' := upd wS i (L i)) (by rw [cl]) (And.intro hv (nm_r (e' := upd wL i 0) (by rw [cl]) (nm_r (nI_1 i) (ih (i + 1) n _ _ (by omega) (by omega) (fun j hj => ?_) (fun j hj => ?_))))))))
    · rcases Nat.lt_or_ge j i with z | z
      · rw [pk_un (by omega)]; exact h1 j z
      · have : j = i := by omega
        subst this; exact pk_us
    · rcases Nat.lt_or_ge j i with z | z
      · rw [pk_un (by omega)]; exact h2 j z
      · have : j = i := by omega
        subst this; exact pk_us
theorem sf_y_raise {post : Int32 → SY → Prop} {LX : Nat → Int32} (hs : ys ≠ 0) (hnv : nv ≤ 8) (hc : c ≤ 96) (hT : ∀ i, i < c → sf_TV nv (K i) (A i)) (hLB : sf_LB nv L) (X : sf_LX nv c K A L LX) (XC : sf_CL K A c LX) (XR : ∀ i, nv ≤ i → LX i = L i)
    (h : ∀ wS wL, post (nI (sf_cn LX L nv)) ((nI nv), yt, yo, (nI c), 1, (-1), yp, 0, K, A, LX, aI, aS, M, oC, oV, kS, kM, kC, kV, wK, wV, wS, wL)) : wpY_raise post ((nI nv), yt, yo, (nI c), ys, yf, yp, yr, K, A, L, aI, aS, M, oC, oV, kS, kM, kC, kV, wK, wV, wS, wL) := by
  have ha2 : ∀ i, i < c → K i = 2 → (A i).toNatClampNeg < nv := fun i hi k => (sf_cl ((hT i hi).2.1 k) (by omega)).1
  have ha6 : ∀ i, i < c → K i = 6 → (A i).toNatClampNeg < nv := fun i hi k => (sf_cl ((hT i hi).2.2.2.1 k) (by omega)).1
  obtain ⟨m0, a1, a2, a3, a4⟩ := sf_first ha2 ha6 X XC hLB (e := 0) (by omega)
  obtain ⟨m1, b1, b2, b3, b4⟩ := sf_first ha2 ha6 X XC hLB (e := 1) (by omega)
  have XB := sf_LX_LB X ha2 hLB
  refine br_f hs ⟨nv + 1, sf_y_ra11 hnv (fun wS wL q1 q2 => ⟨3, ?_⟩) nv 0 (nv + 1) wS wL (by omega) (by omega) (fun j hj => absurd hj (by omega)) (fun j hj => absurd hj (by omega))⟩
  refine br_f (by decide) ⟨m0 + 2, sf_y_ra55 (e := 0) (ms := m0) (w0 := fun _ => 0) hnv hc hT (by omega) a1 a2 a3 q1 q2 (fun L1 wL1 r1 r2 => ?_) m0 0 (m0 + 2) L (by omega) (by omega) (fun j _ => rfl)⟩
  refine br_f (by decide) ⟨m1 + 2, sf_y_ra55 (e := 1) (ms := m1) (w0 := fun j => 0 ||| sf_Lm 0 m0 j) hnv hc hT (by omega) b1 b2 b3 q1 r1 (fun L2 wL2 t1 t2 => ?_) m1 0 (m1 + 2) L1 (by omega) (by omega) r2⟩
  refine br_t (by decide) ⟨nv + 1, sf_y_ra193 (LX := LX) (L0 := L) hnv (fun j hj => ?_) q1 (h wS wL2) nv 0 (nv + 1) L2 (by omega) (by omega) (fun j hj => absurd hj (by omega)) (fun j hj => (t2 j hj).trans (XR j hj).symm)⟩
  rw [t1 j hj, sf_0or]
  refine b_ext fun b _ => Bool.eq_iff_iff.mpr ?_
  rw [sf_bt_or, sf_bt_Lm (by omega), sf_bt_Lm (by omega), a4 j hj, b4 j hj]
  constructor
  · rintro (⟨x, y⟩ | ⟨x, y⟩)
    · subst x; exact y
    · subst x; exact y
  · intro z
    rcases Nat.lt_or_ge b 2 with w | w
    · have : b = 0 ∨ b = 1 := by omega
      rcases this with y | y
      · subst y; exact Or.inl ⟨rfl, z⟩
      · subst y; exact Or.inr ⟨rfl, z⟩
    · rw [XB j hj b w] at z; exact (nomatch z)
end
end
section
/-! the component: one instruction -/
theorem sf_apx {o a b : Int32} (P : Int32 → Prop) (h : P (sf_ap o a b)) : (o < 0 → (a = 0 → (b = 0 → P 0) ∧ (¬ b = 0 → P 1)) ∧ (¬ a = 0 → P 1)) ∧ (¬ o < 0 → (5 < o → (a = 0 → (b = 0 → P 0) ∧ (¬ b = 0 → P 1)) ∧ (¬ a = 0 → P 1)) ∧ (¬ 5 < o → (o = 0 → P (a + b)) ∧ (¬ o = 0 → (o = 1 → P (a - b)) ∧ (¬ o = 1 → (o = 2 → P (a * b)) ∧ (¬ o = 2 →
    (o = 3 → (b ≤ a → P 0) ∧ (¬ b ≤ a → P 1)) ∧ (¬ o = 3 → (o = 4 → (a = b → P 1) ∧ (¬ a = b → P 0)) ∧ (¬ o = 4 → (o = 5 → (a = 0 → P 0) ∧ (¬ a = 0 → (b = 0 → P 0) ∧ (¬ b = 0 → P 1))) ∧ (¬ o = 5 → True)))))))) := by
  unfold sf_ap at h
  have OR : (o ≠ 0 ∧ o ≠ 1 ∧ o ≠ 2 ∧ o ≠ 3 ∧ o ≠ 4 ∧ o ≠ 5) → (a = 0 → (b = 0 → P 0) ∧ (¬ b = 0 → P 1)) ∧ (¬ a = 0 → P 1) := by
    rintro ⟨h0, h1, h2, h3, h4, h5⟩
    rw [if_neg h0, if_neg h1, if_neg h2, if_neg h3, if_neg h4, if_neg h5] at h
    exact sf_c2 (fun h => sf_c2 (fun h => h) (fun h => h) h) (fun h => h) h
  refine br_c (fun hn => OR ?_) fun hn => br_c (fun h5 => OR ?_) fun h5 => ?_
  · refine ⟨?_, ?_, ?_, ?_, ?_, ?_⟩ <;> (intro z; rw [z] at hn; revert hn; decide)
  · refine ⟨?_, ?_, ?_, ?_, ?_, ?_⟩ <;> (intro z; rw [z] at h5; revert h5; decide)
  · refine sf_c2 (fun h => h) (fun h => ?_) h
    refine sf_c2 (fun h => h) (fun h => ?_) h
    refine sf_c2 (fun h => h) (fun h => ?_) h
    refine sf_c2 (fun h => sf_c2 (fun h => h) (fun h => h) h) (fun h => ?_) h
    refine sf_c2 (fun h => sf_c2 (fun h => h) (fun h => h) h) (fun h => ?_) h
    exact sf_c2 (fun h => sf_c2 (fun h => h) (fun h => sf_c2 (fun h => h) (fun h => h) h) h) (fun _ => trivial) h
def sf_oc (oC : Nat → Int32) (ch : Int32) : Nat → Int32 := upd oC ch.toNatClampNeg (oC ch.toNatClampNeg + 1)
def sf_ov (no : Nat) (oC oV : Nat → Int32) (ch v : Int32) : Nat → Int32 := if oC ch.toNatClampNeg < 0 then oV else if nI no ≤ oC ch.toNatClampNeg then oV else upd oV (ch * 16 + oC ch.toNatClampNeg).toNatClampNeg v
theorem sf_ovin {no : Nat} {ch k : Int32} (hno : no ≤ 16) (hc : vp_in ch 4) (h0 : ¬ k < 0) (h1 : ¬ nI no ≤ k) : vp_in (ch * 16 + k) 64 := by
  obtain ⟨j, hj, rfl⟩ := vp_in_of hc (by omega)
  obtain ⟨i, hi, rfl⟩ := nI_of h0
  have : i < no := by
    rcases Nat.lt_or_ge i no with z | z
    · exact z
    · exact absurd (nI_le z hi) h1
  have e : nI j * 16 + nI i = nI (j * 16 + i) := by
    rw [show (16 : Int32) = nI 16 from rfl, pk_mul, nI_add]
  rw [e]
  exact vp_in_nI (by omega) (by omega)
section
variable {xv xt xo xc xs xf xr xp xl xn xq xy xd xe xw xk xj xh xz : Int32} {K A L aI aS M oL oC oV kS kM kC kV cO cA cT cE oP bK bB bL sT rE rO fL : Nat → Int32}
variable {nn a t lim n no : Nat} {lf : Int32} {st : List Int32}
theorem sf_x_apply {post : Int32 → Prop} {o x y : Int32} (h : post (sf_ap o x y)) : wpX_apply post (xv, xt, xo, xc, xs, xf, xr, xp, xl, xn, xq, xy, xd, xe, xw, xk, xj, xh, xz, K, A, L, aI, aS, M, oL, oC, oV, kS, kM, kC, kV, cO, cA, cT, cE, oP, bK, bB, bL, sT, rE, rO, fL) o x y := sf_apx post h
theorem sf_x_operate {post : SX → Prop} {o : Int32} (hl : st.length < 128) (hs : sf_SK sT st) (h : ∀ sT, sf_SK sT (sf_po sf_ap o st) → post (xv, xt, xo, xc, xs, xf, xr, xp, xl, xn, xq, xy, xd, xe, xw, xk, xj, xh, (nI (sf_po sf_ap o st).length), K, A, L, aI, aS, M, oL, oC, oV, kS, kM, kC, kV, cO, cA, cT, cE, oP, bK, bB, bL, sT, rE, rO, fL)) : wpX_operate post (xv, xt, xo, xc, xs, xf, xr, xp, xl, xn, xq, xy, xd, xe, xw, xk, xj, xh, (nI st.length), K, A, L, aI, aS, M, oL, oC, oV, kS, kM, kC, kV, cO, cA, cT, cE, oP, bK, bB, bL, sT, rE, rO, fL) o := by
  have l1 : st.tail.length = st.length - 1 := List.length_tail
  have l2 : st.tail.tail.length = st.tail.length - 1 := List.length_tail
  unfold wpX_operate
  refine sf_x_pop (by omega) hs fun s1 => ?_
  refine sf_x_pop (by omega) s1 fun s2 => ?_
  refine sf_x_apply ?_
  exact sf_x_push (by omega) s2 h
theorem sf_x_putOut {post : SX → Prop} {ch v : Int32} (hno : no ≤ 16) (hch : vp_in ch 4) (hs : sf_SK sT [v]) (h : post (xv, xt, (nI no), xc, xs, xf, xr, xp, xl, xn, xq, xy, xd, xe, xw, xk, xj, xh, 0, K, A, L, aI, aS, M, oL, (sf_oc oC ch), (sf_ov no oC oV ch v), kS, kM, kC, kV, cO, cA, cT, cE, oP, bK, bB, bL, sT, rE, rO, fL)) : wpX_putOut post (xv, xt, (nI no), xc, xs, xf, xr, xp, xl, xn, xq, xy, xd, xe, xw, xk, xj, xh, (nI [v].length), K, A, L, aI, aS, M, oL, oC, oV, kS, kM, kC, kV, cO, cA, cT, cE, oP, bK, bB, bL, sT, rE, rO, fL) ch := by
  unfold wpX_putOut
  refine sf_x_pop (show 1 ≤ 128 by decide) hs fun _ => ?_
  refine And.intro hch (nm_e ?_)
  by_cases a : oC ch.toNatClampNeg < 0
  · have e : sf_ov no oC oV ch v = oV := if_pos a
    rw [e] at h
    exact br_t a (And.intro hch (nm_e h))
  · refine br_f a ?_
    by_cases b : nI no ≤ oC ch.toNatClampNeg
    · have e : sf_ov no oC oV ch v = oV := by unfold sf_ov; rw [if_neg a, if_pos b]
      rw [e] at h
      exact br_t b (And.intro hch (nm_e h))
    · have e : sf_ov no oC oV ch v = upd oV (ch * 16 + oC ch.toNatClampNeg).toNatClampNeg v := by unfold sf_ov; rw [if_neg a, if_neg b]
      rw [e] at h
      exact br_f b (And.intro (sf_ovin hno hch a b) (nm_e (And.intro hch (nm_e h))))
theorem sf_x_pfE {post : SX → Prop} {op ar : Int32} (hop : op = 1 ∨ (op = 2 ∧ vp_in ar 8) ∨ op = 3) (hl : st.length < 128) (hs : sf_SK sT st)
    (h : ∀ sT, sf_SK sT (sf_ci sf_ap (fun x => x) (fun x => M x.toNatClampNeg) op ar st) → post (xv, xt, xo, xc, xs, xf, xr, (nI (a + 1)), xl, xn, xq, xy, xd, xe, xw, xk, xj, xh, (nI (sf_ci sf_ap (fun x => x) (fun x => M x.toNatClampNeg) op ar st).length), K, A, L, aI, aS, M, oL, oC, oV, kS, kM, kC, kV, cO, cA, cT, cE, oP, bK, bB, bL, sT, rE, rO, fL)) : wpX_perform post (xv, xt, xo, xc, xs, xf, xr, (nI a), xl, xn, xq, xy, xd, xe, xw, xk, xj, xh, (nI st.length), K, A, L, aI, aS, M, oL, oC, oV, kS, kM, kC, kV, cO, cA, cT, cE, oP, bK, bB, bL, sT, rE, rO, fL) op ar := by
  unfold sf_ci at h
  refine nm_r (nI_1 a) ?_
  rcases hop with k | ⟨k, kv⟩ | k
  · subst k
    rw [if_pos rfl] at h
    exact br_f (by decide) (br_f (by decide) (br_t rfl (sf_x_push hl hs h)))
  · subst k
    rw [if_neg (by decide), if_pos rfl] at h
    exact br_f (by decide) (br_f (by decide) (br_f (by decide) (br_t rfl (And.intro kv (sf_x_push hl hs h)))))
  · subst k
    rw [if_neg (by decide), if_neg (by decide), if_pos rfl] at h
    exact br_f (by decide) (br_f (by decide) (br_f (by decide) (br_f (by decide) (br_t rfl (sf_x_operate hl hs h)))))
theorem sf_x_pf6 {post : SX → Prop} {ar v : Int32} (hv : vp_in ar 8) (hs : sf_SK sT [v]) (h : post (xv, xt, xo, xc, xs, xf, xr, (nI (a + 1)), xl, xn, xq, xy, xd, xe, xw, xk, xj, xh, 0, K, A, L, aI, aS, (upd M ar.toNatClampNeg v), oL, oC, oV, kS, kM, kC, kV, cO, cA, cT, cE, oP, bK, bB, bL, sT, rE, rO, fL)) : wpX_perform post (xv, xt, xo, xc, xs, xf, xr, (nI a), xl, xn, xq, xy, xd, xe, xw, xk, xj, xh, (nI [v].length), K, A, L, aI, aS, M, oL, oC, oV, kS, kM, kC, kV, cO, cA, cT, cE, oP, bK, bB, bL, sT, rE, rO, fL) 6 ar :=
  nm_r (nI_1 a) (br_f (by decide) (br_f (by decide) (br_f (by decide) (br_f (by decide) (br_f (by decide) (br_f (by decide) (br_f (by decide) (br_t rfl (sf_x_pop (show 1 ≤ 128 by decide) hs fun _ => And.intro hv (nm_e h))))))))))
theorem sf_x_pf7 {post : SX → Prop} {ar v : Int32} (hno : no ≤ 16) (hv : vp_in ar 4) (hs : sf_SK sT [v]) (h : post (xv, xt, (nI no), xc, xs, xf, xr, (nI (a + 1)), xl, xn, xq, xy, xd, xe, xw, xk, xj, xh, 0, K, A, L, aI, aS, M, oL, (sf_oc oC ar), (sf_ov no oC oV ar v), kS, kM, kC, kV, cO, cA, cT, cE, oP, bK, bB, bL, sT, rE, rO, fL)) : wpX_perform post (xv, xt, (nI no), xc, xs, xf, xr, (nI a), xl, xn, xq, xy, xd, xe, xw, xk, xj, xh, (nI [v].length), K, A, L, aI, aS, M, oL, oC, oV, kS, kM, kC, kV, cO, cA, cT, cE, oP, bK, bB, bL, sT, rE, rO, fL) 7 ar :=
  nm_r (nI_1 a) (br_f (by decide) (br_f (by decide) (br_f (by decide) (br_f (by decide) (br_f (by decide) (br_f (by decide) (br_f (by decide) (br_f (by decide) (br_t rfl (sf_x_putOut hno hv hs h))))))))))
theorem sf_x_pf9 {post : SX → Prop} {ar v : Int32} (hs : sf_SK sT [v]) (h0 : v = 0 → post (xv, xt, xo, xc, xs, xf, xr, ar, xl, xn, xq, xy, xd, xe, xw, xk, xj, xh, 0, K, A, L, aI, aS, M, oL, oC, oV, kS, kM, kC, kV, cO, cA, cT, cE, oP, bK, bB, bL, sT, rE, rO, fL)) (h1 : v ≠ 0 → post (xv, xt, xo, xc, xs, xf, xr, (nI (a + 1)), xl, xn, xq, xy, xd, xe, xw, xk, xj, xh, 0, K, A, L, aI, aS, M, oL, oC, oV, kS, kM, kC, kV, cO, cA, cT, cE, oP, bK, bB, bL, sT, rE, rO, fL)) : wpX_perform post (xv, xt, xo, xc, xs, xf, xr, (nI a), xl, xn, xq, xy, xd, xe, xw, xk, xj, xh, (nI [v].length), K, A, L, aI, aS, M, oL, oC, oV, kS, kM, kC, kV, cO, cA, cT, cE, oP, bK, bB, bL, sT, rE, rO, fL) 9 ar :=
  nm_r (nI_1 a) (br_f (by decide) (br_f (by decide) (br_f (by decide) (br_f (by decide) (br_f (by decide) (br_f (by decide) (br_f (by decide) (br_f (by decide) (br_f (by decide) (br_f (by decide) (br_t rfl (sf_x_pop (show 1 ≤ 128 by decide) hs fun _ => br_c h0 h1))))))))))))
theorem sf_x_pfJ {post : SX → Prop} {op ar : Int32} (hop : op = 10 ∨ op = 11) (h : post (xv, xt, xo, xc, xs, xf, xr, ar, xl, xn, xq, xy, xd, xe, xw, xk, xj, xh, xz, K, A, L, aI, aS, M, oL, oC, oV, kS, kM, kC, kV, cO, cA, cT, cE, oP, bK, bB, bL, sT, rE, rO, fL)) : wpX_perform post (xv, xt, xo, xc, xs, xf, xr, (nI a), xl, xn, xq, xy, xd, xe, xw, xk, xj, xh, xz, K, A, L, aI, aS, M, oL, oC, oV, kS, kM, kC, kV, cO, cA, cT, cE, oP, bK, bB, bL, sT, rE, rO, fL) op ar := by
  rcases hop with k | k
  · subst k
    exact nm_r (nI_1 a) (br_f (by decide) (br_f (by decide) (br_f (by decide) (br_f (by decide) (br_f (by decide) (br_f (by decide) (br_f (by decide) (br_f (by decide) (br_f (by decide) (br_f (by decide) (br_f (by decide) (br_t rfl h))))))))))))
  · subst k
    exact nm_r (nI_1 a) (br_f (by decide) (br_f (by decide) (br_f (by decide) (br_f (by decide) (br_f (by decide) (br_f (by decide) (br_f (by decide) (br_f (by decide) (br_f (by decide) (br_f (by decide) (br_f (by decide) (br_f (by decide) (br_t rfl h)))))))))))))
theorem sf_x_pf12 {post : SX → Prop} {ar : Int32} (h : post (xv, xt, xo, xc, xs, xf, xr, (nI (a + 1)), xl, xn, xq, xy, xd, xe, xw, xk, xj, xh, xz, K, A, L, aI, aS, M, oL, oC, oV, kS, kM, kC, kV, cO, cA, cT, cE, oP, bK, bB, bL, sT, rE, rO, fL)) : wpX_perform post (xv, xt, xo, xc, xs, xf, xr, (nI a), xl, xn, xq, xy, xd, xe, xw, xk, xj, xh, xz, K, A, L, aI, aS, M, oL, oC, oV, kS, kM, kC, kV, cO, cA, cT, cE, oP, bK, bB, bL, sT, rE, rO, fL) 12 ar :=
  nm_r (nI_1 a) (br_f (by decide) (br_t (by decide) h))
/-! in the machine's loop -/
theorem sf_x_exE {post : SX → Prop} {b : Nat} (hb : b ≤ nn) (hn : nn ≤ 128) (hlim : lim < 2 ^ 31) : ∀ (m a n t : Nat) (st : List Int32) (sT : Nat → Int32), a + m = b → (∀ j, a ≤ j → j < b → cO j = 1 ∨ (cO j = 2 ∧ vp_in (cA j) 8) ∨ cO j = 3) → st.length + m ≤ 128 → sf_SK sT st → t + m ≤ lim →
    (∀ sT, sf_SK sT (sf_cr sf_ap (fun x => x) (fun x => M x.toNatClampNeg) cO cA a m st) → wX_execute_21 post (nI lim) n lf (nI (t + m)) xv xt xo xc xs xf xr (nI b) xl (nI nn) xq xy xd xe xw xk xj xh (nI (sf_cr sf_ap (fun x => x) (fun x => M x.toNatClampNeg) cO cA a m st).length) K A L aI aS M oL oC oV kS kM kC kV cO cA cT cE oP bK bB bL sT rE rO fL) →
    wX_execute_21 post (nI lim) (n + m) lf (nI t) xv xt xo xc xs xf xr (nI a) xl (nI nn) xq xy xd xe xw xk xj xh (nI st.length) K A L aI aS M oL oC oV kS kM kC kV cO cA cT cE oP bK bB bL sT rE rO fL := by
  intro m
  induction m with
  | zero =>
    intro a n t st sT hab _ _ hs _ h
    have : a = b := by omega
    subst this
    exact h sT hs
  | succ m ih =>
    intro a n t st sT hab hcv hl hs ht h
    have q := hcv a (Nat.le_refl _) (by omega)
    have h0 : cO a ≠ 0 := by rcases q with z | z | z; rw [z]; decide; rw [z.1]; decide; rw [z]; decide
    have h12 : cO a ≠ 12 := by rcases q with z | z | z; rw [z]; decide; rw [z.1]; decide; rw [z]; decide
    have cl : (nI a).toNatClampNeg = a := nI_clamp (by omega)
    have hv : vp_in (nI a) 128 := vp_in_nI (by omega) (by omega)
    have len : (sf_ci sf_ap (fun x => x) (fun x => M x.toNatClampNeg) (cO a) (cA a) st).length ≤ st.length + 1 := by
      unfold sf_ci sf_po
      have l1 : st.tail.length = st.length - 1 := List.length_tail
      have l2 : st.tail.tail.length = st.tail.length - 1 := List.length_tail
      split
      · exact Nat.le_refl _
      · split
        · exact Nat.le_refl _
        · split
          · show st.tail.tail.length + 1 ≤ _; omega
          · omega
    refine br_f (nI_ge (by omega) (by omega)) (br_f (nI_pos (by omega)) (br_f (nI_ge (by omega) (by omega)) (And.intro hv (br_f (by rw [cl]; exact h0) (br_f (by rw [cl]; exact h12) (And.intro hv ?_))))))
    rw [cl]
    refine sf_x_pfE q (by omega) hs fun sT' hs' => nm_r (nI_1 t) ?_
    refine ih (a + 1) n (t + 1) _ sT' (by omega) (fun j x y => hcv j (by omega) y) (by omega) hs' (by omega) fun sT2 hs2 => ?_
    have := h sT2 hs2
    rw [show t + 1 + m = t + (m + 1) from by omega]
    exact this
theorem sf_x_ex6 {post : SX → Prop} {v : Int32} (ha : a < nn) (hn : nn ≤ 128) (hlim : lim < 2 ^ 31) (ht : t < lim) (ho : cO a = 6) (hv : vp_in (cA a) 8) (hs : sf_SK sT [v]) (h : wX_execute_21 post (nI lim) n lf (nI (t + 1)) xv xt xo xc xs xf xr (nI (a + 1)) xl (nI nn) xq xy xd xe xw xk xj xh 0 K A L aI aS (upd M (cA a).toNatClampNeg v) oL oC oV kS kM kC kV cO cA cT cE oP bK bB bL sT rE rO fL) :
    wX_execute_21 post (nI lim) (n + 1) lf (nI t) xv xt xo xc xs xf xr (nI a) xl (nI nn) xq xy xd xe xw xk xj xh (nI [v].length) K A L aI aS M oL oC oV kS kM kC kV cO cA cT cE oP bK bB bL sT rE rO fL := by
  have cl : (nI a).toNatClampNeg = a := nI_clamp (by omega)
  have hva : vp_in (nI a) 128 := vp_in_nI (by omega) (by omega)
  refine br_f (nI_ge ht hlim) (br_f (nI_pos (by omega)) (br_f (nI_ge ha (by omega)) (And.intro hva ?_)))
  rw [cl, ho]
  refine br_f (by decide) (br_f (by decide) (And.intro hva ?_))
  rw [cl]
  exact sf_x_pf6 hv hs (nm_r (nI_1 t) h)
theorem sf_x_ex7 {post : SX → Prop} {v : Int32} (ha : a < nn) (hn : nn ≤ 128) (hlim : lim < 2 ^ 31) (ht : t < lim) (ho : cO a = 7) (hno : no ≤ 16) (hv : vp_in (cA a) 4) (hs : sf_SK sT [v]) (h : wX_execute_21 post (nI lim) n lf (nI (t + 1)) xv xt (nI no) xc xs xf xr (nI (a + 1)) xl (nI nn) xq xy xd xe xw xk xj xh 0 K A L aI aS M oL (sf_oc oC (cA a)) (sf_ov no oC oV (cA a) v) kS kM kC kV cO cA cT cE oP bK bB bL sT rE rO fL) :
    wX_execute_21 post (nI lim) (n + 1) lf (nI t) xv xt (nI no) xc xs xf xr (nI a) xl (nI nn) xq xy xd xe xw xk xj xh (nI [v].length) K A L aI aS M oL oC oV kS kM kC kV cO cA cT cE oP bK bB bL sT rE rO fL := by
  have cl : (nI a).toNatClampNeg = a := nI_clamp (by omega)
  have hva : vp_in (nI a) 128 := vp_in_nI (by omega) (by omega)
  refine br_f (nI_ge ht hlim) (br_f (nI_pos (by omega)) (br_f (nI_ge ha (by omega)) (And.intro hva ?_)))
  rw [cl, ho]
  refine br_f (by decide) (br_f (by decide) (And.intro hva ?_))
  rw [cl]
  exact sf_x_pf7 hno hv hs (nm_r (nI_1 t) h)
theorem sf_x_ex9 {post : SX → Prop} {v : Int32} (ha : a < nn) (hn : nn ≤ 128) (hlim : lim < 2 ^ 31) (ht : t < lim) (ho : cO a = 9) (hs : sf_SK sT [v]) (h0 : v = 0 → wX_execute_21 post (nI lim) n lf (nI (t + 1)) xv xt xo xc xs xf xr (cA a) xl (nI nn) xq xy xd xe xw xk xj xh 0 K A L aI aS M oL oC oV kS kM kC kV cO cA cT cE oP bK bB bL sT rE rO fL) (h1 : v ≠ 0 → wX_execute_21 post (nI lim) n lf (nI (t + 1)) xv xt xo xc xs xf xr (nI (a + 1)) xl (nI nn) xq xy xd xe xw xk xj xh 0 K A L aI aS M oL oC oV kS kM kC kV cO cA cT cE oP bK bB bL sT rE rO fL) :
    wX_execute_21 post (nI lim) (n + 1) lf (nI t) xv xt xo xc xs xf xr (nI a) xl (nI nn) xq xy xd xe xw xk xj xh (nI [v].length) K A L aI aS M oL oC oV kS kM kC kV cO cA cT cE oP bK bB bL sT rE rO fL := by
  have cl : (nI a).toNatClampNeg = a := nI_clamp (by omega)
  have hva : vp_in (nI a) 128 := vp_in_nI (by omega) (by omega)
  refine br_f (nI_ge ht hlim) (br_f (nI_pos (by omega)) (br_f (nI_ge ha (by omega)) (And.intro hva ?_)))
  rw [cl, ho]
  refine br_f (by decide) (br_f (by decide) (And.intro hva ?_))
  rw [cl]
  exact sf_x_pf9 hs (fun z => nm_r (nI_1 t) (h0 z)) (fun z => nm_r (nI_1 t) (h1 z))
theorem sf_x_exJ {post : SX → Prop} (ha : a < nn) (hn : nn ≤ 128) (hlim : lim < 2 ^ 31) (ht : t < lim) (ho : cO a = 10 ∨ cO a = 11) (h : wX_execute_21 post (nI lim) n lf (nI (t + 1)) xv xt xo xc xs xf xr (cA a) xl (nI nn) xq xy xd xe xw xk xj xh xz K A L aI aS M oL oC oV kS kM kC kV cO cA cT cE oP bK bB bL sT rE rO fL) :
    wX_execute_21 post (nI lim) (n + 1) lf (nI t) xv xt xo xc xs xf xr (nI a) xl (nI nn) xq xy xd xe xw xk xj xh xz K A L aI aS M oL oC oV kS kM kC kV cO cA cT cE oP bK bB bL sT rE rO fL := by
  have cl : (nI a).toNatClampNeg = a := nI_clamp (by omega)
  have hva : vp_in (nI a) 128 := vp_in_nI (by omega) (by omega)
  refine br_f (nI_ge ht hlim) (br_f (nI_pos (by omega)) (br_f (nI_ge ha (by omega)) (And.intro hva ?_)))
  rw [cl]
  refine br_f (by rcases ho with z | z <;> rw [z] <;> decide) (br_f (by rcases ho with z | z <;> rw [z] <;> decide) (And.intro hva ?_))
  rw [cl]
  exact sf_x_pfJ ho (nm_r (nI_1 t) h)
theorem sf_x_ex12 {post : SX → Prop} {l : Nat} (ha : a < nn) (hn : nn ≤ 128) (hlim : lim < 2 ^ 31) (ht : t < lim) (hl : l < 1000) (ho : cO a = 12) (h0 : l = 0 → post (xv, xt, xo, xc, xs, xf, xr, (nI a), (cT a), (nI nn), xq, xy, xd, xe, xw, xk, xj, xh, xz, K, A, L, aI, aS, M, oL, oC, oV, kS, kM, kC, kV, cO, cA, cT, cE, oP, bK, bB, bL, sT, rE, rO, fL)) (h1 : 0 < l → wX_execute_21 post (nI lim) n (nI (l - 1)) (nI (t + 1)) xv xt xo xc xs xf xr (nI (a + 1)) xl (nI nn) xq xy xd xe xw xk xj xh xz K A L aI aS M oL oC oV kS kM kC kV cO cA cT cE oP bK bB bL sT rE rO fL) :
    wX_execute_21 post (nI lim) (n + 1) (nI l) (nI t) xv xt xo xc xs xf xr (nI a) xl (nI nn) xq xy xd xe xw xk xj xh xz K A L aI aS M oL oC oV kS kM kC kV cO cA cT cE oP bK bB bL sT rE rO fL := by
  have cl : (nI a).toNatClampNeg = a := nI_clamp (by omega)
  have hva : vp_in (nI a) 128 := vp_in_nI (by omega) (by omega)
  refine br_f (nI_ge ht hlim) (br_f (nI_pos (by omega)) (br_f (nI_ge ha (by omega)) (And.intro hva ?_)))
  rw [cl, ho]
  refine br_f (by decide) (br_t rfl ?_)
  rcases Nat.eq_zero_or_pos l with z | z
  · subst z
    exact br_t rfl (And.intro hva (nm_r (e' := cT a) (by rw [cl]) (h0 rfl)))
  · exact br_f (nI_ne0 z (by omega)) (nm_r (sf_m1 z) (And.intro hva (sf_x_pf12 (nm_r (nI_1 t) (h1 z)))))
theorem sf_x_ex0 {post : SX → Prop} (ha : a < nn) (hn : nn ≤ 128) (hlim : lim < 2 ^ 31) (ht : t < lim) (ho : cO a = 0) (h : post (xv, xt, xo, xc, 5, xf, xr, (nI a), xl, (nI nn), xq, xy, xd, xe, xw, xk, xj, xh, xz, K, A, L, aI, aS, M, oL, oC, oV, kS, kM, kC, kV, cO, cA, cT, cE, oP, bK, bB, bL, sT, rE, rO, fL)) :
    wX_execute_21 post (nI lim) (n + 1) lf (nI t) xv xt xo xc xs xf xr (nI a) xl (nI nn) xq xy xd xe xw xk xj xh xz K A L aI aS M oL oC oV kS kM kC kV cO cA cT cE oP bK bB bL sT rE rO fL := by
  have cl : (nI a).toNatClampNeg = a := nI_clamp (by omega)
  have hva : vp_in (nI a) 128 := vp_in_nI (by omega) (by omega)
  refine br_f (nI_ge ht hlim) (br_f (nI_pos (by omega)) (br_f (nI_ge ha (by omega)) (And.intro hva ?_)))
  rw [cl]
  exact br_t ho h
end
end
section
/-! the reference: one statement of a run -/
section
variable {yv yt yo yc ys yf yp yr : Int32} {K A L aI aS M oC oV kS kM kC kV wK wV wS wL : Nat → Int32}
variable {nv c p R most n u t no : Nat}
theorem sf_y_r110b {post : Int32 → SY → Prop} {J : Int32 → Int32 → Int32 → Int32 → Int32 → Int32 → Int32 → Int32 → Int32 → Int32 → (Nat → Int32) → (Nat → Int32) → (Nat → Int32) → (Nat → Int32) → (Nat → Int32) → (Nat → Int32) → (Nat → Int32) → (Nat → Int32) → (Nat → Int32) → (Nat → Int32) → (Nat → Int32) → (Nat → Int32) → (Nat → Int32) → (Nat → Int32) → (Nat → Int32) → (Nat → Int32) → Prop} {v x2 x3 x4 x5 : Int32} (hc : c ≤ 96) (hp : p < c) (hT : ∀ i, i < c → sf_TV nv (K i) (A i)) (hnv : nv ≤ 8) (hb : sf_b (K p))
    (HV : (sf_rn sf_ap (sf_tk (fun x => x) (fun x => M x.toNatClampNeg) K A) (p + 1) (sf_xe K c p - (p + 1)) (true, [], [-1])).bind (sf_st sf_ap (5, 0)) = some (false, [v], []))
    (h : ∀ wK wV, wY_run_129 post J x2 x3 x4 x5 (nI p) (K p) v yv yt yo (nI c) ys yf yp yr K A L aI aS M oC oV kS kM kC kV wK wV wS wL) : wY_run_110 post J x2 x3 x4 x5 (nI p) (K p) yv yt yo (nI c) ys yf yp yr K A L aI aS M oC oV kS kM kC kV wK wV wS wL := by
  unfold wY_run_110
  refine sf_y_begins (fun _ => br_f (by decide) ?_) (fun z => absurd hb z)
  exact sf_y_eval hc hp (fun i hi k => sf_in8 ((hT i hi).2.1 k) hnv (by omega)) (fun i hi k => (hT i hi).2.2.1 k) HV h
theorem sf_y_r110n {post : Int32 → SY → Prop} {J : Int32 → Int32 → Int32 → Int32 → Int32 → Int32 → Int32 → Int32 → Int32 → Int32 → (Nat → Int32) → (Nat → Int32) → (Nat → Int32) → (Nat → Int32) → (Nat → Int32) → (Nat → Int32) → (Nat → Int32) → (Nat → Int32) → (Nat → Int32) → (Nat → Int32) → (Nat → Int32) → (Nat → Int32) → (Nat → Int32) → (Nat → Int32) → (Nat → Int32) → (Nat → Int32) → Prop} {x2 x3 x4 x5 : Int32} (hb : ¬ sf_b (K p)) (h : wY_run_129 post J x2 x3 x4 x5 (nI p) (K p) 0 yv yt yo yc ys yf yp yr K A L aI aS M oC oV kS kM kC kV wK wV wS wL) : wY_run_110 post J x2 x3 x4 x5 (nI p) (K p) yv yt yo yc ys yf yp yr K A L aI aS M oC oV kS kM kC kV wK wV wS wL := by
  unfold wY_run_110
  exact sf_y_begins (fun z => absurd z hb) (fun _ => br_t rfl h)
theorem sf_y_it {post : Int32 → SY → Prop} {x2 x3 : Int32} (hc : c ≤ 96) (hp : p < c) (hm : most < 2 ^ 31) (ht : t < most) (k : K p ≠ 12) (h : wY_run_110 post (wY_run_46 post x2 (nI most) n) x2 x3 (nI most) (nI t) (nI p) (K p) yv yt yo (nI c) ys yf (nI p) yr K A L aI aS M oC oV kS kM kC kV wK wV wS wL) : wY_run_46 post x2 (nI most) (n + 1) x3 (nI t) yv yt yo (nI c) ys yf (nI p) yr K A L aI aS M oC oV kS kM kC kV wK wV wS wL := by
  have cl : (nI p).toNatClampNeg = p := nI_clamp (by omega)
  exact br_f (nI_ge ht hm) (br_t (nI_lt hp (by omega)) (And.intro (vp_in_nI (by omega) (by omega)) (nm_r (e' := K p) (by rw [cl]) (br_f k (br_f k h)))))
theorem sf_y_it12 {post : Int32 → SY → Prop} (hc : c ≤ 96) (hp : p < c) (hm : most < 2 ^ 31) (ht : t < most) (k : K p = 12) (hR : R < 2 ^ 31) (hu : u ≤ R) (h0 : u = R → post 4 (yv, yt, yo, (nI c), ys, yf, (nI p), yr, K, A, L, aI, aS, M, oC, oV, kS, kM, kC, kV, wK, wV, wS, wL)) (h : u < R → wY_run_110 post (wY_run_46 post (nI R) (nI most) n) (nI R) (nI (u + 1)) (nI most) (nI t) (nI p) (K p) yv yt yo (nI c) ys yf (nI p) yr K A L aI aS M oC oV kS kM kC kV wK wV wS wL) : wY_run_46 post (nI R) (nI most) (n + 1) (nI u) (nI t) yv yt yo (nI c) ys yf (nI p) yr K A L aI aS M oC oV kS kM kC kV wK wV wS wL := by
  have cl : (nI p).toNatClampNeg = p := nI_clamp (by omega)
  refine br_f (nI_ge ht hm) (br_t (nI_lt hp (by omega)) (And.intro (vp_in_nI (by omega) (by omega)) (nm_r (e' := K p) (by rw [cl]) (br_t k ?_))))
  rcases Nat.lt_or_ge u R with z | z
  · exact br_f (fun e => by have := sf_inj e (by omega) hR; omega) (br_t k (nm_r (nI_1 u) (h z)))
  · have : u = R := by omega
    exact br_t (by rw [this]) (h0 this)
theorem sf_y_end {post : Int32 → SY → Prop} {x2 x3 : Int32} (hc : c ≤ 96) (hm : most < 2 ^ 31) (ht : t < most) (h : post 5 (yv, yt, yo, (nI c), 5, yf, (nI c), yr, K, A, L, aI, aS, M, oC, oV, kS, kM, kC, kV, wK, wV, wS, wL)) : wY_run_46 post x2 (nI most) (n + 1) x3 (nI t) yv yt yo (nI c) ys yf (nI c) yr K A L aI aS M oC oV kS kM kC kV wK wV wS wL :=
  br_f (nI_ge ht hm) (br_f (nI_nlt (Nat.le_refl _) (by omega)) h)
theorem sf_y_129g {post : Int32 → SY → Prop} {J : Int32 → Int32 → Int32 → Int32 → Int32 → Int32 → Int32 → Int32 → Int32 → Int32 → (Nat → Int32) → (Nat → Int32) → (Nat → Int32) → (Nat → Int32) → (Nat → Int32) → (Nat → Int32) → (Nat → Int32) → (Nat → Int32) → (Nat → Int32) → (Nat → Int32) → (Nat → Int32) → (Nat → Int32) → (Nat → Int32) → (Nat → Int32) → (Nat → Int32) → (Nat → Int32) → Prop} {x2 x3 x4 v : Int32} {q : Nat} (hc : c ≤ 96) (hp : p < c) (hq : q < c) (hpe : sf_PE K p q) (k : sf_g (K p)) (h0 : v = 0 → J x3 (nI (t + 1)) yv yt yo (nI c) ys yf (nI (q + 1)) yr K A L aI aS M oC oV kS kM kC kV wK wV wS wL) (h1 : v ≠ 0 → J x3 (nI (t + 1)) yv yt yo (nI c) ys yf (nI (sf_xe K c p + 1)) yr K A L aI aS M oC oV kS kM kC kV wK wV wS wL) : wY_run_129 post J x2 x3 x4 (nI t) (nI p) (K p) v yv yt yo (nI c) ys yf yp yr K A L aI aS M oC oV kS kM kC kV wK wV wS wL := by
  have G : wY_run_263 post J x2 x3 x4 (nI t) (nI p) v yv yt yo (nI c) ys yf yp yr K A L aI aS M oC oV kS kM kC kV wK wV wS wL :=
    br_c (fun z => sf_y_partEnd hc hq hpe (nm_r (nI_1 q) (nm_r (nI_1 t) (h0 z)))) (fun z => sf_y_xe hc hp (nm_r (nI_1 _) (nm_r (nI_1 t) (h1 z))))
  rcases k with k | k
  · rw [k]
    exact br_f (by decide) (br_f (by decide) (br_t rfl G))
  · rw [k]
    exact br_f (by decide) (br_f (by decide) (br_f (by decide) (br_t rfl G)))
theorem sf_y_129s {post : Int32 → SY → Prop} {J : Int32 → Int32 → Int32 → Int32 → Int32 → Int32 → Int32 → Int32 → Int32 → Int32 → (Nat → Int32) → (Nat → Int32) → (Nat → Int32) → (Nat → Int32) → (Nat → Int32) → (Nat → Int32) → (Nat → Int32) → (Nat → Int32) → (Nat → Int32) → (Nat → Int32) → (Nat → Int32) → (Nat → Int32) → (Nat → Int32) → (Nat → Int32) → (Nat → Int32) → (Nat → Int32) → Prop} {x2 x3 x4 v : Int32} (hc : c ≤ 96) (hp : p < c) (k : K p = 6) (hv : vp_in (A p) 8) (h : J x3 (nI (t + 1)) yv yt yo (nI c) ys yf (nI (sf_xe K c p)) yr K A L aI aS (upd M (A p).toNatClampNeg v) oC oV kS kM kC kV wK wV wS wL) : wY_run_129 post J x2 x3 x4 (nI t) (nI p) (K p) v yv yt yo (nI c) ys yf yp yr K A L aI aS M oC oV kS kM kC kV wK wV wS wL := by
  have cl : (nI p).toNatClampNeg = p := nI_clamp (by omega)
  refine br_t k (And.intro (vp_in_nI (by omega) (by omega)) ?_)
  rw [cl]
  exact And.intro hv (nm_e (sf_y_xe hc hp (nm_r (nI_1 t) h)))
theorem sf_y_129o {post : Int32 → SY → Prop} {J : Int32 → Int32 → Int32 → Int32 → Int32 → Int32 → Int32 → Int32 → Int32 → Int32 → (Nat → Int32) → (Nat → Int32) → (Nat → Int32) → (Nat → Int32) → (Nat → Int32) → (Nat → Int32) → (Nat → Int32) → (Nat → Int32) → (Nat → Int32) → (Nat → Int32) → (Nat → Int32) → (Nat → Int32) → (Nat → Int32) → (Nat → Int32) → (Nat → Int32) → (Nat → Int32) → Prop} {x2 x3 x4 v : Int32} (hc : c ≤ 96) (hp : p < c) (k : K p = 7) (hno : no ≤ 16) (hv : vp_in (A p) 4) (h : J x3 (nI (t + 1)) yv yt (nI no) (nI c) ys yf (nI (sf_xe K c p)) yr K A L aI aS M (sf_oc oC (A p)) (sf_ov no oC oV (A p) v) kS kM kC kV wK wV wS wL) : wY_run_129 post J x2 x3 x4 (nI t) (nI p) (K p) v yv yt (nI no) (nI c) ys yf yp yr K A L aI aS M oC oV kS kM kC kV wK wV wS wL := by
  have cl : (nI p).toNatClampNeg = p := nI_clamp (by omega)
  have tail : ∀ oV, J x3 (nI (t + 1)) yv yt (nI no) (nI c) ys yf (nI (sf_xe K c p)) yr K A L aI aS M (sf_oc oC (A p)) oV kS kM kC kV wK wV wS wL → wY_run_225 post J x2 x3 x4 (nI t) (nI p) (A p) yv yt (nI no) (nI c) ys yf yp yr K A L aI aS M oC oV kS kM kC kV wK wV wS wL := fun oV hh => And.intro hv (And.intro hv (nm_e (sf_y_xe hc hp (nm_r (nI_1 t) hh))))
  refine br_f (by rw [k]; decide) (br_t k (And.intro (vp_in_nI (by omega) (by omega)) (nm_r (e' := A p) (by rw [cl]) (And.intro hv ?_))))
  by_cases a : oC (A p).toNatClampNeg < 0
  · have e : sf_ov no oC oV (A p) v = oV := if_pos a
    rw [e] at h
    exact br_t a (tail oV h)
  · refine br_f a (And.intro hv ?_)
    by_cases b : nI no ≤ oC (A p).toNatClampNeg
    · have e : sf_ov no oC oV (A p) v = oV := by unfold sf_ov; rw [if_neg a, if_pos b]
      rw [e] at h
      exact br_t b (tail oV h)
    · have e : sf_ov no oC oV (A p) v = upd oV (A p * 16 + oC (A p).toNatClampNeg).toNatClampNeg v := by unfold sf_ov; rw [if_neg a, if_neg b]
      rw [e] at h
      exact br_f b (And.intro hv (And.intro (sf_ovin hno hv a b) (nm_e (tail _ h))))
theorem sf_y_129e {post : Int32 → SY → Prop} {J : Int32 → Int32 → Int32 → Int32 → Int32 → Int32 → Int32 → Int32 → Int32 → Int32 → (Nat → Int32) → (Nat → Int32) → (Nat → Int32) → (Nat → Int32) → (Nat → Int32) → (Nat → Int32) → (Nat → Int32) → (Nat → Int32) → (Nat → Int32) → (Nat → Int32) → (Nat → Int32) → (Nat → Int32) → (Nat → Int32) → (Nat → Int32) → (Nat → Int32) → (Nat → Int32) → Prop} {x2 x3 x4 v : Int32} {q : Nat} (hc : c ≤ 96) (hp : p < c) (hq : q < c) (hpe : sf_PE K p q) (k : K p = 10) (h : J x3 (nI (t + 1)) yv yt yo (nI c) ys yf (nI (q + 1)) yr K A L aI aS M oC oV kS kM kC kV wK wV wS wL) : wY_run_129 post J x2 x3 x4 (nI t) (nI p) (K p) v yv yt yo (nI c) ys yf yp yr K A L aI aS M oC oV kS kM kC kV wK wV wS wL := by
  rw [k]
  exact br_f (by decide) (br_f (by decide) (br_f (by decide) (br_f (by decide) (br_t rfl (sf_y_partEnd hc hq hpe (nm_r (nI_1 q) (nm_r (nI_1 t) h)))))))
theorem sf_y_129n {post : Int32 → SY → Prop} {J : Int32 → Int32 → Int32 → Int32 → Int32 → Int32 → Int32 → Int32 → Int32 → Int32 → (Nat → Int32) → (Nat → Int32) → (Nat → Int32) → (Nat → Int32) → (Nat → Int32) → (Nat → Int32) → (Nat → Int32) → (Nat → Int32) → (Nat → Int32) → (Nat → Int32) → (Nat → Int32) → (Nat → Int32) → (Nat → Int32) → (Nat → Int32) → (Nat → Int32) → (Nat → Int32) → Prop} {x2 x3 x4 v : Int32} {o s : Nat} {B : List (Nat × Nat)} (hc : c ≤ 96) (hp : p < c) (hbk : sf_BK K p = (o, s) :: B) (k : K p = 11) (h1 : K o = 12 → J x3 (nI (t + 1)) yv yt yo (nI c) ys yf (nI o) yr K A L aI aS M oC oV kS kM kC kV wK wV wS wL) (h0 : K o ≠ 12 → J x3 (nI (t + 1)) yv yt yo (nI c) ys yf (nI (p + 1)) yr K A L aI aS M oC oV kS kM kC kV wK wV wS wL) : wY_run_129 post J x2 x3 x4 (nI t) (nI p) (K p) v yv yt yo (nI c) ys yf yp yr K A L aI aS M oC oV kS kM kC kV wK wV wS wL := by
  have e : (sf_OB K p)[0]? = some o := by unfold sf_OB; rw [hbk]; rfl
  have E := sf_EN_BK K p
  rw [hbk] at E
  have e1 := E.1
  have e2 := E.2.1
  dsimp only at e1 e2
  have cl : (nI o).toNatClampNeg = o := nI_clamp (by omega)
  rw [k]
  refine br_f (by decide) (br_f (by decide) (br_f (by decide) (br_f (by decide) (br_f (by decide) (sf_y_opener (by omega) ?_)))))
  rw [e]
  refine br_f (nI_pos (by omega)) (And.intro (vp_in_nI (by omega) (by omega)) ?_)
  by_cases z : K o = 12
  · exact br_t (by show K (nI o).toNatClampNeg = 12; rw [cl]; exact z) (nm_r (nI_1 t) (h1 z))
  · exact br_f (by show ¬ K (nI o).toNatClampNeg = 12; rw [cl]; exact z) (nm_r (nI_1 p) (nm_r (nI_1 t) (h0 z)))
end
end
section
/-! a run: both sides, statement by statement -/
section
variable {nv c p : Nat} {K A cO cA cT cE : Nat → Int32} {xn : Int32}
theorem sf_CM_pe (C : sf_CM nv c K A xn cO cA cT cE) (hp : p < c) (hs : sf_g (K p) ∨ K p = 10) : ∃ q, p < q ∧ q < c ∧ sf_PE K p q ∧ cA (sf_ja K c p) = nI (sf_ad K (q + 1)) ∧ sf_BD K c (q + 1) ∧ sf_nb K c p ≤ q + 1 := by
  have h6 : sf_six (K p) := by
    rcases hs with g | g
    · exact sf_b_six (sf_g_b g)
    · rw [g]; decide
  have hs' : sf_g (K p) ∨ (K p = 10 ∧ sf_BK K p ≠ []) := by
    rcases hs with g | g
    · exact Or.inl g
    · obtain ⟨o, B, e, _⟩ := sf_FT_10 (C.2.1 p hp) g
      exact Or.inr ⟨g, by rw [e]; simp⟩
  rcases sf_SEG (K := K) hs' (c - (p + 1)) with ⟨x, hx, _⟩ | ⟨q, q1, q2, q3, o, B, q4⟩
  · rw [show p + 1 + (c - (p + 1)) = c from by omega, C.2.2.1] at hx; exact (nomatch hx)
  · have q2' : q < c := by omega
    have q6 : sf_six (K q) := by rcases q3 with z | z <;> rw [z] <;> decide
    have qb : ¬ sf_b (K q) := by rcases q3 with z | z <;> rw [z] <;> decide
    have nbq := sf_CM_nb C q2' q6
    rw [sf_nb_n qb] at nbq
    refine ⟨q, q1, q2', sf_PE_of q3 q4, C.2.2.2.1.2.2.2.1 q q2' q3 o p B q4, nbq.2.1, ?_⟩
    by_cases b : sf_b (K p)
    · rcases Nat.lt_or_ge q (sf_nb K c p) with z | z
      · have := sf_e9_six (sf_CM_mid C hp b q1 z)
        rcases q3 with y | y
        · exact absurd y this.2.2.1
        · exact absurd y this.2.2.2
      · omega
    · rw [sf_nb_n b]; omega
end
section
variable {xv xt xo xc xs xf xr xp xl xn xq xy xd xe xw xk xj xh xz : Int32} {K A L aI aS M oL oC oV kS kM kC kV cO cA cT cE oP bK bB bL sT rE rO fL : Nat → Int32}
variable {nv c p n t lim cl : Nat} {lf v : Int32}
theorem sf_x_expr {post : SX → Prop} (C : sf_CM nv c K A (nI cl) cO cA cT cE) (hcl : cl = sf_ad K c + 1) (hc : c ≤ 96) (hnv : nv ≤ 8) (hp : p < c) (hb : sf_b (K p)) (hlim : lim < 2 ^ 31)
    (hcr : sf_cr sf_ap (fun x => x) (fun x => M x.toNatClampNeg) cO cA (sf_hd K p) (sf_ti K c p - sf_hd K p) [] = [v]) (ht : t + (sf_ti K c p - sf_hd K p) ≤ lim)
    (h : ∀ sT, sf_SK sT [v] → wX_execute_21 post (nI lim) n lf (nI (t + (sf_ti K c p - sf_hd K p))) xv xt xo xc xs xf xr (nI (sf_ti K c p)) xl (nI cl) xq xy xd xe xw xk xj xh (nI [v].length) K A L aI aS M oL oC oV kS kM kC kV cO cA cT cE oP bK bB bL sT rE rO fL) :
    wX_execute_21 post (nI lim) (n + (sf_ti K c p - sf_hd K p)) lf (nI t) xv xt xo xc xs xf xr (nI (sf_hd K p)) xl (nI cl) xq xy xd xe xw xk xj xh 0 K A L aI aS M oL oC oV kS kM kC kV cO cA cT cE oP bK bB bL sT rE rO fL := by
  obtain ⟨b1, b2, b3, b4, b5, b6, b7, b8⟩ := C.2.2.2.1.1 p hp hb
  have hhd : sf_hd K p ≤ sf_ti K c p := b4.1
  have m := sf_ad_mono (K := K) b2
  have adc := sf_ad_le (K := K) c
  refine sf_x_exE (b := sf_ti K c p) (by omega) (by omega) hlim (sf_ti K c p - sf_hd K p) (sf_hd K p) n t [] sT (by omega) (fun j x y => ?_) (by show 0 + _ ≤ _; omega) trivial ht fun sT' hs' => ?_
  · rcases b4.2.1 j x y with q | q | q
    · exact Or.inl q
    · exact Or.inr (Or.inl ⟨q.1, sf_in8 q.2 hnv (by omega)⟩)
    · exact Or.inr (Or.inr q)
  · rw [hcr] at hs' ⊢
    exact h sT' hs'
end
def sf_OUT (K : Nat → Int32) (c : Nat) (r xs xp xl yp : Int32) : Prop :=
  (r = 5 ∧ xs = 5) ∨ (r = 4 ∧ xs = 4 ∧ ∃ q, q ≤ c ∧ sf_BD K c q ∧ xl = nI q ∧ yp = nI q ∧ xp = nI (sf_ad K q))
section
variable {xv xt xo xc xs xf xr xp xl xn xq xy xd xe xw xk xj xh xz : Int32} {K A L aI aS M oL oC oV kS kM kC kV cO cA cT cE oP bK bB bL sT rE rO fL : Nat → Int32}
variable {yv yt yo ys yf yp yr : Int32} {wK wV wS wL : Nat → Int32}
variable {nv c no R lim most cl : Nat}
theorem sf_run (C : sf_CM nv c K A (nI cl) cO cA cT cE) (hcl : cl = sf_ad K c + 1) (hc : c ≤ 96) (hT : ∀ i, i < c → sf_TV nv (K i) (A i)) (hnv : nv ≤ 8) (hno : no ≤ 16) (hR : R < 1000) (hlim : lim = R * cl + cl + R + 1) (hmost : most = R * (c + 1) + R + 2 * c + 4) (hl31 : lim < 2 ^ 31) (hm31 : most < 2 ^ 31) :
    ∀ (m l p t t' ux uy : Nat) (M oC oV : Nat → Int32), l * (c + 2) + (if K p = 12 then 0 else 1 + (c - p)) < m → sf_BD K c p → p ≤ c → l ≤ R → ux + l * cl = R * cl → uy + l * (c + 1) = R * (c + 1) →
      (t ≤ ux + sf_ad K p ∨ (K p = 12 ∧ p < c ∧ t ≤ ux + cl)) → (t' ≤ uy + p ∨ (K p = 12 ∧ p < c ∧ t' ≤ uy + c + 1)) →
      ∃ (r xs' xp' xl' yp' : Int32) (M' oC' oV' : Nat → Int32), sf_OUT K c r xs' xp' xl' yp' ∧
        (∀ (post : SX → Prop) (n : Nat) (sT : Nat → Int32), lim + 1 ≤ n + t → (∀ sT xz, post (xv, xt, (nI no), (nI c), xs', xf, xr, xp', xl', (nI cl), xq, xy, xd, xe, xw, xk, xj, xh, xz, K, A, L, aI, aS, M', oL, oC', oV', kS, kM, kC, kV, cO, cA, cT, cE, oP, bK, bB, bL, sT, rE, rO, fL)) → wX_execute_21 post (nI lim) n (nI l) (nI t) xv xt (nI no) (nI c) 4 xf xr (nI (sf_ad K p)) xl (nI cl) xq xy xd xe xw xk xj xh 0 K A L aI aS M oL oC oV kS kM kC kV cO cA cT cE oP bK bB bL sT rE rO fL) ∧
        (∀ (post : Int32 → SY → Prop) (n : Nat) (wK wV : Nat → Int32), most + 1 ≤ n + t' → (∀ wK wV, post r (yv, yt, (nI no), (nI c), xs', yf, yp', yr, K, A, L, aI, aS, M', oC', oV', kS, kM, kC, kV, wK, wV, wS, wL)) → wY_run_46 post (nI R) (nI most) n (nI (R - l)) (nI t') yv yt (nI no) (nI c) 4 yf (nI p) yr K A L aI aS M oC oV kS kM kC kV wK wV wS wL) := by
  have adc := sf_ad_le (K := K) c
  have CD := C.2.2.2.1
  have CF := C.2.1
  intro m
  induction m with
  | zero => intro l p t t' ux uy M oC oV hm; exact absurd hm (by omega)
  | succ m ih =>
    intro l p t t' ux uy M oC oV hm hbd hpc hlR hux huy hbt hbt'
    have tl : t < lim := by
      rcases hbt with z | z
      · have := sf_ad_mono (K := K) hpc; omega
      · omega
    have tm : t' < most := by
      rcases hbt' with z | z
      · omega
      · omega
    rcases hbd with z | ⟨hp, h6⟩
    · subst z
      refine ⟨5, 5, nI (sf_ad K p), xl, nI p, M, oC, oV, Or.inl ⟨rfl, rfl⟩, fun post n sT hn h => ?_, fun post n wK wV hn h => ?_⟩
      · obtain ⟨n, rfl⟩ : ∃ k, n = k + 1 := ⟨n - 1, by omega⟩
        exact sf_x_ex0 (by omega) (by omega) hl31 tl C.2.2.2.2 (h sT 0)
      · obtain ⟨n, rfl⟩ : ∃ k, n = k + 1 := ⟨n - 1, by omega⟩
        exact sf_y_end hc hm31 tm (h wK wV)
    · obtain ⟨l1, l2, l3, l4⟩ := sf_CM_nb C hp h6
      have nbc : sf_nb K c p ≤ c := (CD.2.2.2.2.2.1 p hp h6).1
      -- what a next place gives
      have go : K p ≠ 12 → ∀ (p' t1 : Nat) (M oC oV : Nat → Int32), p < p' → p' ≤ c → sf_BD K c p' → t1 ≤ ux + sf_ad K p' → _ := fun k12 p' t1 M oC oV a1 a2 a3 a4 =>
        ih l p' t1 (t' + 1) ux uy M oC oV (by
          rw [if_neg k12] at hm
          split <;> omega) a3 a2 hlR hux huy (Or.inl a4) (Or.inl (by
          rcases hbt' with z | z
          · omega
          · exact absurd z.1 k12))
      by_cases hb : sf_b (K p)
      · obtain ⟨b1, b2, b3, b4, b5, b6, b7, b8⟩ := CD.1 p hp hb
        have hhd : sf_hd K p ≤ sf_ti K c p := b4.1
        obtain ⟨v, HV, hcr⟩ := b4.2.2 sf_ap (fun x => x) (fun x => M x.toNatClampNeg)
        by_cases g : sf_g (K p)
        · obtain ⟨q, q1, q2, q3, q4, q5, q6⟩ := sf_CM_pe C hp (Or.inl g)
          rw [if_pos g] at b5
          have k10 : K p ≠ 10 := (sf_b1011 hb).1
          have eja : sf_ja K c p = sf_ti K c p := if_neg k10
          rw [eja] at q4
          have exb : sf_nb K c p = sf_xe K c p + 1 := sf_nb_g g
          -- the next place
          have mq := sf_ad_mono (K := K) q6
          by_cases k12 : K p = 12
          · have hd : sf_hd K p = sf_ad K p + 1 := by unfold sf_hd; rw [if_pos k12]
            have c12 := b1 k12
            rcases Nat.eq_zero_or_pos l with z | z
            · subst z
              refine ⟨4, 4, nI (sf_ad K p), nI p, nI p, M, oC, oV, Or.inr ⟨rfl, rfl, p, hpc, Or.inr ⟨hp, h6⟩, rfl, rfl, rfl⟩, fun post n sT hn h => ?_, fun post n wK wV hn h => ?_⟩
              · obtain ⟨n, rfl⟩ : ∃ k, n = k + 1 := ⟨n - 1, by omega⟩
                refine sf_x_ex12 (l := 0) (by omega) (by omega) hl31 tl (by omega) c12.1 (fun _ => ?_) (fun y => absurd y (by omega))
                rw [c12.2]
                exact h sT 0
              · obtain ⟨n, rfl⟩ : ∃ k, n = k + 1 := ⟨n - 1, by omega⟩
                exact sf_y_it12 hc hp hm31 tm k12 (by omega) (by omega) (fun _ => h wK wV) (fun y => absurd y (by omega))
            · obtain ⟨l, rfl⟩ : ∃ k, l = k + 1 := ⟨l - 1, by omega⟩
              have e1 : (l + 1) * cl = l * cl + cl := Nat.succ_mul l cl
              have e2 : (l + 1) * (c + 1) = l * (c + 1) + (c + 1) := Nat.succ_mul l (c + 1)
              have e3 : (l + 1) * (c + 2) = l * (c + 2) + (c + 2) := Nat.succ_mul l (c + 2)
              rw [if_pos k12] at hm
              have go2 : ∀ (p' : Nat), p < p' → sf_nb K c p ≤ p' → p' ≤ c → sf_BD K c p' → _ := fun p' a1 a0 a2 a3 =>
                ih l p' (t + 1 + (sf_ti K c p - sf_hd K p) + 1) (t' + 1) (ux + cl) (uy + (c + 1)) M oC oV (by split <;> omega) a3 a2 (by omega) (by omega) (by omega) (Or.inl (by
                  have := sf_ad_mono (K := K) a0
                  rcases hbt with y | y <;> omega)) (Or.inl (by rcases hbt' with y | y <;> omega))
              have er : R - (l + 1) + 1 = R - l := by omega
              by_cases v0 : v = 0
              · obtain ⟨r, xs', xp', xl', yp', M', oC', oV', O, PX, PY⟩ := go2 (q + 1) (by omega) q6 (by omega) q5
                refine ⟨r, xs', xp', xl', yp', M', oC', oV', O, fun post n sT hn h => ?_, fun post n wK wV hn h => ?_⟩
                · obtain ⟨n, rfl⟩ : ∃ k, n = k + 1 + (sf_ti K c p - sf_hd K p) + 1 := ⟨n - 1 - (sf_ti K c p - sf_hd K p) - 1, by rcases hbt with y | y <;> omega⟩
                  refine sf_x_ex12 (l := l + 1) (by omega) (by omega) hl31 tl (by omega) c12.1 (fun y => absurd y (by omega)) (fun _ => ?_)
                  rw [← hd]
                  refine sf_x_expr C hcl hc hnv hp hb hl31 hcr (by rcases hbt with y | y <;> omega) fun sT' hs' => ?_
                  refine sf_x_ex9 (by omega) (by omega) hl31 (by rcases hbt with y | y <;> omega) b5 hs' (fun _ => ?_) (fun y => absurd v0 y)
                  rw [q4]
                  exact PX post n sT' (by omega) h
                · obtain ⟨n, rfl⟩ : ∃ k, n = k + 1 := ⟨n - 1, by omega⟩
                  refine sf_y_it12 hc hp hm31 tm k12 (by omega) (by omega) (fun y => absurd y (by omega)) (fun _ => ?_)
                  rw [er]
                  refine sf_y_r110b hc hp hT hnv hb HV fun wK wV => sf_y_129g hc hp q2 q3 g (fun _ => ?_) (fun y => absurd v0 y)
                  exact PY post n wK wV (by omega) h
              · obtain ⟨r, xs', xp', xl', yp', M', oC', oV', O, PX, PY⟩ := go2 (sf_nb K c p) l1 (Nat.le_refl _) nbc l2
                refine ⟨r, xs', xp', xl', yp', M', oC', oV', O, fun post n sT hn h => ?_, fun post n wK wV hn h => ?_⟩
                · obtain ⟨n, rfl⟩ : ∃ k, n = k + 1 + (sf_ti K c p - sf_hd K p) + 1 := ⟨n - 1 - (sf_ti K c p - sf_hd K p) - 1, by rcases hbt with y | y <;> omega⟩
                  refine sf_x_ex12 (l := l + 1) (by omega) (by omega) hl31 tl (by omega) c12.1 (fun y => absurd y (by omega)) (fun _ => ?_)
                  rw [← hd]
                  refine sf_x_expr C hcl hc hnv hp hb hl31 hcr (by rcases hbt with y | y <;> omega) fun sT' hs' => ?_
                  refine sf_x_ex9 (by omega) (by omega) hl31 (by rcases hbt with y | y <;> omega) b5 hs' (fun y => absurd y v0) (fun _ => ?_)
                  rw [b8]
                  exact PX post n sT' (by omega) h
                · obtain ⟨n, rfl⟩ : ∃ k, n = k + 1 := ⟨n - 1, by omega⟩
                  refine sf_y_it12 hc hp hm31 tm k12 (by omega) (by omega) (fun y => absurd y (by omega)) (fun _ => ?_)
                  rw [er]
                  refine sf_y_r110b hc hp hT hnv hb HV fun wK wV => sf_y_129g hc hp q2 q3 g (fun y => absurd y v0) (fun _ => ?_)
                  rw [← exb]
                  exact PY post n wK wV (by omega) h
          · have hd : sf_hd K p = sf_ad K p := by unfold sf_hd; rw [if_neg k12]; rfl
            have bt0 : t ≤ ux + sf_ad K p := by
              rcases hbt with y | y
              · exact y
              · exact absurd y.1 k12
            by_cases v0 : v = 0
            · obtain ⟨r, xs', xp', xl', yp', M', oC', oV', O, PX, PY⟩ := go k12 (q + 1) (t + (sf_ti K c p - sf_hd K p) + 1) M oC oV (by omega) (by omega) q5 (by omega)
              refine ⟨r, xs', xp', xl', yp', M', oC', oV', O, fun post n sT hn h => ?_, fun post n wK wV hn h => ?_⟩
              · obtain ⟨n, rfl⟩ : ∃ k, n = k + 1 + (sf_ti K c p - sf_hd K p) := ⟨n - 1 - (sf_ti K c p - sf_hd K p), by omega⟩
                rw [← hd]
                refine sf_x_expr C hcl hc hnv hp hb hl31 hcr (by omega) fun sT' hs' => ?_
                refine sf_x_ex9 (by omega) (by omega) hl31 (by omega) b5 hs' (fun _ => ?_) (fun y => absurd v0 y)
                rw [q4]
                exact PX post n sT' (by omega) h
              · obtain ⟨n, rfl⟩ : ∃ k, n = k + 1 := ⟨n - 1, by omega⟩
                refine sf_y_it hc hp hm31 tm k12 (sf_y_r110b hc hp hT hnv hb HV fun wK wV => sf_y_129g hc hp q2 q3 g (fun _ => ?_) (fun y => absurd v0 y))
                exact PY post n wK wV (by omega) h
            · obtain ⟨r, xs', xp', xl', yp', M', oC', oV', O, PX, PY⟩ := go k12 (sf_nb K c p) (t + (sf_ti K c p - sf_hd K p) + 1) M oC oV l1 nbc l2 (by omega)
              refine ⟨r, xs', xp', xl', yp', M', oC', oV', O, fun post n sT hn h => ?_, fun post n wK wV hn h => ?_⟩
              · obtain ⟨n, rfl⟩ : ∃ k, n = k + 1 + (sf_ti K c p - sf_hd K p) := ⟨n - 1 - (sf_ti K c p - sf_hd K p), by omega⟩
                rw [← hd]
                refine sf_x_expr C hcl hc hnv hp hb hl31 hcr (by omega) fun sT' hs' => ?_
                refine sf_x_ex9 (by omega) (by omega) hl31 (by omega) b5 hs' (fun y => absurd y v0) (fun _ => ?_)
                rw [b8]
                exact PX post n sT' (by omega) h
              · obtain ⟨n, rfl⟩ : ∃ k, n = k + 1 := ⟨n - 1, by omega⟩
                refine sf_y_it hc hp hm31 tm k12 (sf_y_r110b hc hp hT hnv hb HV fun wK wV => sf_y_129g hc hp q2 q3 g (fun y => absurd y v0) (fun _ => ?_))
                rw [← exb]
                exact PY post n wK wV (by omega) h
        · rw [if_neg g] at b5
          have k12 : K p ≠ 12 := fun y => g (Or.inr y)
          have a7 := b7 g
          have exb : sf_nb K c p = sf_xe K c p := sf_nb_b hb g
          have hd : sf_hd K p = sf_ad K p := by unfold sf_hd; rw [if_neg k12]; rfl
          have bt0 : t ≤ ux + sf_ad K p := by
            rcases hbt with y | y
            · exact y
            · exact absurd y.1 k12
          by_cases k6 : K p = 6
          · obtain ⟨r, xs', xp', xl', yp', M', oC', oV', O, PX, PY⟩ := go k12 (sf_nb K c p) (t + (sf_ti K c p - sf_hd K p) + 1) (upd M (A p).toNatClampNeg v) oC oV l1 nbc l2 (by omega)
            have hv8 : vp_in (A p) 8 := sf_in8 ((hT p hp).2.2.2.1 k6) hnv (by omega)
            refine ⟨r, xs', xp', xl', yp', M', oC', oV', O, fun post n sT hn h => ?_, fun post n wK wV hn h => ?_⟩
            · obtain ⟨n, rfl⟩ : ∃ k, n = k + 1 + (sf_ti K c p - sf_hd K p) := ⟨n - 1 - (sf_ti K c p - sf_hd K p), by omega⟩
              rw [← hd]
              refine sf_x_expr C hcl hc hnv hp hb hl31 hcr (by omega) fun sT' hs' => ?_
              refine sf_x_ex6 (by omega) (by omega) hl31 (by omega) (b5.trans k6) (by rw [a7]; exact hv8) hs' ?_
              rw [a7, b8]
              exact PX post n sT' (by omega) h
            · obtain ⟨n, rfl⟩ : ∃ k, n = k + 1 := ⟨n - 1, by omega⟩
              refine sf_y_it hc hp hm31 tm k12 (sf_y_r110b hc hp hT hnv hb HV fun wK wV => sf_y_129s hc hp k6 hv8 ?_)
              rw [← exb]
              exact PY post n wK wV (by omega) h
          · have k7 : K p = 7 := by
              rcases hb with y | y | y | y
              · exact absurd y k6
              · exact y
              · exact absurd (Or.inl y) g
              · exact absurd (Or.inr y) g
            obtain ⟨r, xs', xp', xl', yp', M', oC', oV', O, PX, PY⟩ := go k12 (sf_nb K c p) (t + (sf_ti K c p - sf_hd K p) + 1) M (sf_oc oC (A p)) (sf_ov no oC oV (A p) v) l1 nbc l2 (by omega)
            have hv4 : vp_in (A p) 4 := (hT p hp).2.2.2.2 k7
            refine ⟨r, xs', xp', xl', yp', M', oC', oV', O, fun post n sT hn h => ?_, fun post n wK wV hn h => ?_⟩
            · obtain ⟨n, rfl⟩ : ∃ k, n = k + 1 + (sf_ti K c p - sf_hd K p) := ⟨n - 1 - (sf_ti K c p - sf_hd K p), by omega⟩
              rw [← hd]
              refine sf_x_expr C hcl hc hnv hp hb hl31 hcr (by omega) fun sT' hs' => ?_
              refine sf_x_ex7 (by omega) (by omega) hl31 (by omega) (b5.trans k7) hno (by rw [a7]; exact hv4) hs' ?_
              rw [a7, b8]
              exact PX post n sT' (by omega) h
            · obtain ⟨n, rfl⟩ : ∃ k, n = k + 1 := ⟨n - 1, by omega⟩
              refine sf_y_it hc hp hm31 tm k12 (sf_y_r110b hc hp hT hnv hb HV fun wK wV => sf_y_129o hc hp k7 hno hv4 ?_)
              rw [← exb]
              exact PY post n wK wV (by omega) h
      · have nb1 : sf_nb K c p = p + 1 := sf_nb_n hb
        rw [nb1] at l2 nbc l4
        have k12 : K p ≠ 12 := fun y => hb (Or.inr (Or.inr (Or.inr y)))
        have bt0 : t ≤ ux + sf_ad K p := by
          rcases hbt with y | y
          · exact y
          · exact absurd y.1 k12
        by_cases k10 : K p = 10
        · obtain ⟨q, q1, q2, q3, q4, q5, q6⟩ := sf_CM_pe C hp (Or.inr k10)
          have eja : sf_ja K c p = sf_ad K p := if_pos k10
          rw [eja] at q4
          have adl : sf_ad K p < sf_ad K (q + 1) := sf_ad_lt (by omega) (sf_cw_1 (by simp [k10]))
          have adq := sf_ad_mono (K := K) (p := q + 1) (q := c) (by omega)
          obtain ⟨r, xs', xp', xl', yp', M', oC', oV', O, PX, PY⟩ := go k12 (q + 1) (t + 1) M oC oV (by omega) (by omega) q5 (by omega)
          refine ⟨r, xs', xp', xl', yp', M', oC', oV', O, fun post n sT hn h => ?_, fun post n wK wV hn h => ?_⟩
          · obtain ⟨n, rfl⟩ : ∃ k, n = k + 1 := ⟨n - 1, by omega⟩
            refine sf_x_exJ (by omega) (by omega) hl31 tl (Or.inl (CD.2.1 p hp k10)) ?_
            rw [q4]
            exact PX post n sT (by omega) h
          · obtain ⟨n, rfl⟩ : ∃ k, n = k + 1 := ⟨n - 1, by omega⟩
            exact sf_y_it hc hp hm31 tm k12 (sf_y_r110n hb (sf_y_129e hc hp q2 q3 k10 (PY post n wK wV (by omega) h)))
        · have k11 : K p = 11 := by
            rcases h6 with y | y | y | y | y | y
            · exact absurd (Or.inl y) hb
            · exact absurd (Or.inr (Or.inl y)) hb
            · exact absurd (Or.inr (Or.inr (Or.inl y))) hb
            · exact absurd y k10
            · exact y
            · exact absurd (Or.inr (Or.inr (Or.inr y))) hb
          cases e : sf_BK K p with
          | nil => exact absurd e (sf_FT_11 (CF p hp) k11)
          | cons x B =>
            obtain ⟨o, s⟩ := x
            have EN := sf_EN_BK K p
            rw [e] at EN
            have en1 := EN.1
            have en2 := EN.2.1
            dsimp only at en1 en2
            have cwE := sf_cw_E k11 e
            by_cases ko : K o = 12
            · rw [if_pos ko] at cwE
              have adp : sf_ad K (p + 1) = sf_ad K p + 1 := by rw [sf_ad_s, cwE]
              obtain ⟨o1, o2⟩ := CD.2.2.1 p hp k11 o s B e ko
              rw [if_neg k12] at hm
              obtain ⟨r, xs', xp', xl', yp', M', oC', oV', O, PX, PY⟩ := ih l o (t + 1) (t' + 1) ux uy M oC oV (by rw [if_pos ko]; omega) (Or.inr ⟨by omega, by rw [ko]; decide⟩) (by omega) hlR hux huy (Or.inr ⟨ko, by omega, by omega⟩) (Or.inr ⟨ko, by omega, by
                rcases hbt' with y | y
                · omega
                · exact absurd y.1 k12⟩)
              refine ⟨r, xs', xp', xl', yp', M', oC', oV', O, fun post n sT hn h => ?_, fun post n wK wV hn h => ?_⟩
              · obtain ⟨n, rfl⟩ : ∃ k, n = k + 1 := ⟨n - 1, by omega⟩
                refine sf_x_exJ (by omega) (by omega) hl31 tl (Or.inr o1) ?_
                rw [o2]
                exact PX post n sT (by omega) h
              · obtain ⟨n, rfl⟩ : ∃ k, n = k + 1 := ⟨n - 1, by omega⟩
                exact sf_y_it hc hp hm31 tm k12 (sf_y_r110n hb (sf_y_129n hc hp e k11 (fun _ => PY post n wK wV (by omega) h) (fun y => absurd ko y)))
            · rw [if_neg ko] at cwE
              have adp : sf_ad K (p + 1) = sf_ad K p := by rw [sf_ad_s, cwE]; rfl
              obtain ⟨r, xs', xp', xl', yp', M', oC', oV', O, PX, PY⟩ := go k12 (p + 1) t M oC oV (by omega) nbc l2 (by omega)
              refine ⟨r, xs', xp', xl', yp', M', oC', oV', O, fun post n sT hn h => ?_, fun post n wK wV hn h => ?_⟩
              · rw [← adp]
                exact PX post n sT hn h
              · obtain ⟨n, rfl⟩ : ∃ k, n = k + 1 := ⟨n - 1, by omega⟩
                exact sf_y_it hc hp hm31 tm k12 (sf_y_r110n hb (sf_y_129n hc hp e k11 (fun y => absurd y ko) (fun _ => PY post n wK wV (by omega) h)))
end
end
section
/-! rows of kit/rows (starting text): Int64 as an unsigned number -/
def uN (x : Int64) : Nat := x.toUInt64.toNat
theorem uN_lt (x : Int64) : uN x < 18446744073709551616 := x.toUInt64.toNat_lt
theorem uN_inj {x y : Int64} (h : uN x = uN y) : x = y := congrArg UInt64.toInt64 (UInt64.toNat_inj.mp h)
theorem uN_add (x y : Int64) : uN (x + y) = (uN x + uN y) % 18446744073709551616 := by
  show (x.toUInt64 + y.toUInt64).toNat = _
  exact UInt64.toNat_add _ _
theorem uN_lo (x : Int64) : uN (x &&& 4294967295) = uN x % 4294967296 := by
  show (x.toUInt64 &&& Int64.toUInt64 4294967295).toNat = _
  rw [UInt64.toNat_and]
  exact Nat.and_two_pow_sub_one_eq_mod _ 32
theorem uN_int (x : Int64) : x.toInt = if 2 * uN x < 18446744073709551616 then (uN x : Int) else (uN x : Int) - 18446744073709551616 := BitVec.toInt_eq_toNat_cond _
/-! own rows: the small methods -/
theorem sf_tok64 (a : Int32) : (a.toInt64 &&& 4294967295) = if 0 ≤ a.toInt64 then a.toInt64 else a.toInt64 + 4294967296 := by
  have h := uN_int a.toInt64
  rw [Int32.toInt_toInt64] at h
  have b1 := a.le_toInt
  have b2 := a.toInt_lt
  have b3 := uN_lt a.toInt64
  have z : (0 : Int64) ≤ a.toInt64 ↔ 0 ≤ a.toInt := by
    rw [Int64.le_iff_toInt_le, Int32.toInt_toInt64]; exact Iff.rfl
  apply uN_inj
  rw [uN_lo]
  by_cases q : (0 : Int64) ≤ a.toInt64
  · rw [if_pos q]
    have q' := z.mp q
    split at h <;> omega
  · rw [if_neg q, uN_add, show uN 4294967296 = 4294967296 from rfl]
    have q' : ¬ 0 ≤ a.toInt := fun y => q (z.mpr y)
    split at h <;> omega
def sf_cp (src dst : Nat → Int32) (n : Nat) : Nat → Int32 := fun j => if j < n then src j else dst j
theorem sf_cp_0 (src dst : Nat → Int32) : sf_cp src dst 0 = dst := by
  funext j
  exact if_neg (by omega)
theorem sf_cp_s (src dst : Nat → Int32) (n : Nat) : upd (sf_cp src dst n) n (src n) = sf_cp src dst (n + 1) := by
  funext j
  show (if j = n then src n else if j < n then src j else dst j) = if j < n + 1 then src j else dst j
  by_cases a : j = n
  · subst a
    rw [if_pos rfl, if_pos (by omega)]
  · rw [if_neg a]
    by_cases b : j < n
    · rw [if_pos b, if_pos (by omega)]
    · rw [if_neg b, if_neg (by omega)]
def sf_c3 (x lo hi : Int32) : Int32 := if lo ≤ x then (if x ≤ hi then x else hi) else lo
theorem sf_c3_in {x : Int32} {lo hi : Nat} (hl : lo ≤ hi) (hh : hi < 2 ^ 31) : ∃ j, lo ≤ j ∧ j ≤ hi ∧ sf_c3 x (nI lo) (nI hi) = nI j := by
  unfold sf_c3
  by_cases a : nI lo ≤ x
  · rw [if_pos a]
    by_cases b : x ≤ nI hi
    · rw [if_pos b]
      have h0 : ¬ x < 0 := fun z => nI_pos (n := lo) (by omega) (Int32.lt_of_le_of_lt a z)
      obtain ⟨j, hj, rfl⟩ := nI_of h0
      exact ⟨j, (nI_leI (by omega) hj).mp a, (nI_leI hj hh).mp b, rfl⟩
    · rw [if_neg b]
      exact ⟨hi, hl, Nat.le_refl _, rfl⟩
  · rw [if_neg a]
    exact ⟨lo, Nat.le_refl _, hl, rfl⟩
theorem sf_nneg {x : Int32} {n : Nat} (hn : n < 2 ^ 31) (h : nI n ≤ x) : ¬ x < 0 := fun z => nI_pos (n := n) hn (Int32.lt_of_le_of_lt h z)
section
variable {xv xt xo xc xs xf xr xp xl xn xq xy xd xe xw xk xj xh xz : Int32} {K A L aI aS M oL oC oV kS kM kC kV cO cA cT cE oP bK bB bL sT rE rO fL : Nat → Int32}
variable {nv no : Nat}
theorem sf_x_clamp {post : Int32 → Prop} {x lo hi : Int32} (h : post (sf_c3 x lo hi)) : wpX_clamp post (xv, xt, xo, xc, xs, xf, xr, xp, xl, xn, xq, xy, xd, xe, xw, xk, xj, xh, xz, K, A, L, aI, aS, M, oL, oC, oV, kS, kM, kC, kV, cO, cA, cT, cE, oP, bK, bB, bL, sT, rE, rO, fL) x lo hi := by
  unfold sf_c3 at h
  exact sf_c2 (fun h => sf_c2 (fun h => h) (fun h => h) h) (fun h => h) h
theorem sf_x_isVar {post : Int32 → Prop} {x : Int32} (hn : nv < 2 ^ 31) (h1 : ∀ j, j < nv → x = nI j → post 1) (h0 : (x < 0 ∨ (¬ x < 0 ∧ nI nv ≤ x)) → post 0) : wpX_isVar post ((nI nv), xt, xo, xc, xs, xf, xr, xp, xl, xn, xq, xy, xd, xe, xw, xk, xj, xh, xz, K, A, L, aI, aS, M, oL, oC, oV, kS, kM, kC, kV, cO, cA, cT, cE, oP, bK, bB, bL, sT, rE, rO, fL) x := by
  rcases pk_ix x hn with z | z | ⟨j, hj, z⟩
  · exact br_t z (h0 (Or.inl z))
  · exact br_f (sf_nneg hn z) (br_t z (h0 (Or.inr ⟨sf_nneg hn z, z⟩)))
  · subst z
    exact br_f (nI_pos (by omega)) (br_f (nI_ge hj hn) (h1 j hj rfl))
theorem sf_x_isLabel {post : Int32 → Prop} {x : Int32} (h1 : ∀ j, j < 4 → x = nI j → post 1) (h0 : (x < 0 ∨ (¬ x < 0 ∧ 3 < x)) → post 0) : wpX_isLabel post (xv, xt, xo, xc, xs, xf, xr, xp, xl, xn, xq, xy, xd, xe, xw, xk, xj, xh, xz, K, A, L, aI, aS, M, oL, oC, oV, kS, kM, kC, kV, cO, cA, cT, cE, oP, bK, bB, bL, sT, rE, rO, fL) x := by
  by_cases a : x < 0
  · exact br_t a (h0 (Or.inl a))
  · obtain ⟨j, hj, rfl⟩ := nI_of a
    refine br_f a ?_
    rcases Nat.lt_or_ge j 4 with z | z
    · exact br_f (nI_nlt (b := j) (a := 3) (by omega) (by omega)) (h1 j z rfl)
    · have : (3 : Int32) < nI j := nI_lt (a := 3) (by omega) hj
      exact br_t this (h0 (Or.inr ⟨a, this⟩))
theorem sf_x_st68 {post : Int32 → SX → Prop} (h : post 0 (xv, xt, xo, xc, 4, xf, xr, 0, 0, xn, xq, xy, xd, xe, xw, xk, xj, xh, xz, K, A, L, aI, aS, M, oL, (sf_cp (fun _ => 0) oC 4), oV, kS, kM, kC, kV, cO, cA, cT, cE, oP, bK, bB, bL, sT, rE, rO, fL)) : ∀ (m i n : Nat), i + m = 4 → m < n → wX_start_68 post xv xt xo xc xs xf xr xp xl xn xq xy xd xe xw xk xj xh xz n (nI i) K A L aI aS M oL (sf_cp (fun _ => 0) oC i) oV kS kM kC kV cO cA cT cE oP bK bB bL sT rE rO fL := by
  intro m
  induction m with
  | zero =>
    intro i n hi hn
    obtain ⟨n, rfl⟩ : ∃ k, n = k + 1 := ⟨n - 1, by omega⟩
    have : i = 4 := by omega
    subst this
    exact br_t (by decide) h
  | succ m ih =>
    intro i n hi hn
    obtain ⟨n, rfl⟩ : ∃ k, n = k + 1 := ⟨n - 1, by omega⟩
    exact br_f (nI_nlt (b := i) (a := 3) (by omega) (by omega)) (And.intro (vp_in_nI (by omega) (by omega)) (nm_r (e' := sf_cp (fun _ => 0) oC (i + 1)) (by rw [nI_clamp (by omega), ← sf_cp_s]) (nm_r (nI_1 i) (ih (i + 1) n (by omega) (by omega)))))
theorem sf_x_st28 {post : Int32 → SX → Prop} (hnv : nv ≤ 8) (h : post 0 ((nI nv), xt, xo, xc, 4, xf, xr, 0, 0, xn, xq, xy, xd, xe, xw, xk, xj, xh, xz, K, A, L, aI, (sf_cp aI aS nv), (sf_cp aI M nv), oL, (sf_cp (fun _ => 0) oC 4), oV, kS, kM, kC, kV, cO, cA, cT, cE, oP, bK, bB, bL, sT, rE, rO, fL)) : ∀ (m i n : Nat), i + m = nv → m < n → wX_start_28 post (nI nv) xt xo xc xs xf xr xp xl xn xq xy xd xe xw xk xj xh xz n (nI i) K A L aI (sf_cp aI aS i) (sf_cp aI M i) oL oC oV kS kM kC kV cO cA cT cE oP bK bB bL sT rE rO fL := by
  intro m
  induction m with
  | zero =>
    intro i n hi hn
    obtain ⟨n, rfl⟩ : ∃ k, n = k + 1 := ⟨n - 1, by omega⟩
    have : i = nv := by omega
    subst this
    have S := sf_x_st68 (xs := xs) (xp := xp) (xl := xl) h 4 0 5 (by omega) (by omega)
    rw [sf_cp_0] at S
    exact br_t (nI_le (Nat.le_refl _) (by omega)) ⟨5, S⟩
  | succ m ih =>
    intro i n hi hn
    obtain ⟨n, rfl⟩ : ∃ k, n = k + 1 := ⟨n - 1, by omega⟩
    have cl : (nI i).toNatClampNeg = i := nI_clamp (by omega)
    have hv : vp_in (nI i) 8 := vp_in_nI (by omega) (by omega)
    exact br_f (nI_ge (by omega) (by omega)) (And.intro hv (And.intro hv (nm_r (e' := sf_cp aI aS (i + 1)) (by rw [cl, ← sf_cp_s]) (And.intro hv (And.intro hv (nm_r (e' := sf_cp aI M (i + 1)) (by rw [cl, ← sf_cp_s]) (nm_r (nI_1 i) (ih (i + 1) n (by omega) (by omega)))))))))
theorem sf_x_kp77 {post : Int32 → SX → Prop} (h : post 0 (xv, xt, xo, xc, xs, xf, 1, xp, xl, xn, xq, xy, xd, xe, xw, xk, xj, xh, xz, K, A, L, aI, aS, M, oL, oC, oV, kS, kM, kC, (sf_cp oV kV 64), cO, cA, cT, cE, oP, bK, bB, bL, sT, rE, rO, fL)) : ∀ (m i n : Nat), i + m = 64 → m < n → wX_keep_77 post xv xt xo xc xs xf xr xp xl xn xq xy xd xe xw xk xj xh xz n (nI i) K A L aI aS M oL oC oV kS kM kC (sf_cp oV kV i) cO cA cT cE oP bK bB bL sT rE rO fL := by
  intro m
  induction m with
  | zero =>
    intro i n hi hn
    obtain ⟨n, rfl⟩ : ∃ k, n = k + 1 := ⟨n - 1, by omega⟩
    have : i = 64 := by omega
    subst this
    exact br_t (nI_le (a := 64) (b := 64) (by omega) (by omega)) h
  | succ m ih =>
    intro i n hi hn
    obtain ⟨n, rfl⟩ : ∃ k, n = k + 1 := ⟨n - 1, by omega⟩
    have cl : (nI i).toNatClampNeg = i := nI_clamp (by omega)
    have hv : vp_in (nI i) 64 := vp_in_nI (by omega) (by omega)
    exact br_f (nI_ge (b := 64) (by omega) (by omega)) (And.intro hv (And.intro hv (nm_r (e' := sf_cp oV kV (i + 1)) (by rw [cl, ← sf_cp_s]) (nm_r (nI_1 i) (ih (i + 1) n (by omega) (by omega))))))
theorem sf_x_kp52 {post : Int32 → SX → Prop} (h : post 0 (xv, xt, xo, xc, xs, xf, 1, xp, xl, xn, xq, xy, xd, xe, xw, xk, xj, xh, xz, K, A, L, aI, aS, M, oL, oC, oV, kS, kM, (sf_cp oC kC 4), (sf_cp oV kV 64), cO, cA, cT, cE, oP, bK, bB, bL, sT, rE, rO, fL)) : ∀ (m i n : Nat), i + m = 4 → m < n → wX_keep_52 post xv xt xo xc xs xf xr xp xl xn xq xy xd xe xw xk xj xh xz n (nI i) K A L aI aS M oL oC oV kS kM (sf_cp oC kC i) kV cO cA cT cE oP bK bB bL sT rE rO fL := by
  intro m
  induction m with
  | zero =>
    intro i n hi hn
    obtain ⟨n, rfl⟩ : ∃ k, n = k + 1 := ⟨n - 1, by omega⟩
    have : i = 4 := by omega
    subst this
    have S := sf_x_kp77 (xr := xr) h 64 0 65 (by omega) (by omega)
    rw [sf_cp_0] at S
    exact br_t (by decide) ⟨65, S⟩
  | succ m ih =>
    intro i n hi hn
    obtain ⟨n, rfl⟩ : ∃ k, n = k + 1 := ⟨n - 1, by omega⟩
    have cl : (nI i).toNatClampNeg = i := nI_clamp (by omega)
    have hv : vp_in (nI i) 4 := vp_in_nI (by omega) (by omega)
    exact br_f (nI_nlt (b := i) (a := 3) (by omega) (by omega)) (And.intro hv (And.intro hv (nm_r (e' := sf_cp oC kC (i + 1)) (by rw [cl, ← sf_cp_s]) (nm_r (nI_1 i) (ih (i + 1) n (by omega) (by omega))))))
theorem sf_x_kp12 {post : Int32 → SX → Prop} (hnv : nv ≤ 8) (h : post 0 ((nI nv), xt, xo, xc, xs, xf, 1, xp, xl, xn, xq, xy, xd, xe, xw, xk, xj, xh, xz, K, A, L, aI, aS, M, oL, oC, oV, (sf_cp aS kS nv), (sf_cp M kM nv), (sf_cp oC kC 4), (sf_cp oV kV 64), cO, cA, cT, cE, oP, bK, bB, bL, sT, rE, rO, fL)) : ∀ (m i n : Nat), i + m = nv → m < n → wX_keep_12 post (nI nv) xt xo xc xs xf xr xp xl xn xq xy xd xe xw xk xj xh xz n (nI i) K A L aI aS M oL oC oV (sf_cp aS kS i) (sf_cp M kM i) kC kV cO cA cT cE oP bK bB bL sT rE rO fL := by
  intro m
  induction m with
  | zero =>
    intro i n hi hn
    obtain ⟨n, rfl⟩ : ∃ k, n = k + 1 := ⟨n - 1, by omega⟩
    have : i = nv := by omega
    subst this
    have S := sf_x_kp52 (xr := xr) h 4 0 5 (by omega) (by omega)
    rw [sf_cp_0] at S
    exact br_t (nI_le (Nat.le_refl _) (by omega)) ⟨5, S⟩
  | succ m ih =>
    intro i n hi hn
    obtain ⟨n, rfl⟩ : ∃ k, n = k + 1 := ⟨n - 1, by omega⟩
    have cl : (nI i).toNatClampNeg = i := nI_clamp (by omega)
    have hv : vp_in (nI i) 8 := vp_in_nI (by omega) (by omega)
    exact br_f (nI_ge (by omega) (by omega)) (And.intro hv (And.intro hv (nm_r (e' := sf_cp aS kS (i + 1)) (by rw [cl, ← sf_cp_s]) (And.intro hv (And.intro hv (nm_r (e' := sf_cp M kM (i + 1)) (by rw [cl, ← sf_cp_s]) (nm_r (nI_1 i) (ih (i + 1) n (by omega) (by omega)))))))))
end
section
variable {yv yt yo yc ys yf yp yr : Int32} {K A L aI aS M oC oV kS kM kC kV wK wV wS wL : Nat → Int32}
variable {nv no : Nat}
theorem sf_y_clamp {post : Int32 → Prop} {x lo hi : Int32} (h : post (sf_c3 x lo hi)) : wpY_clamp post (yv, yt, yo, yc, ys, yf, yp, yr, K, A, L, aI, aS, M, oC, oV, kS, kM, kC, kV, wK, wV, wS, wL) x lo hi := by
  unfold sf_c3 at h
  exact sf_c2 (fun h => sf_c2 (fun h => h) (fun h => h) h) (fun h => h) h
theorem sf_y_st68 {post : Int32 → SY → Prop} (h : post 0 (yv, yt, yo, yc, 4, yf, 0, yr, K, A, L, aI, aS, M, (sf_cp (fun _ => 0) oC 4), oV, kS, kM, kC, kV, wK, wV, wS, wL)) : ∀ (m i n : Nat), i + m = 4 → m < n → wY_start_68 post yv yt yo yc ys yf yp yr n (nI i) K A L aI aS M (sf_cp (fun _ => 0) oC i) oV kS kM kC kV wK wV wS wL := by
  intro m
  induction m with
  | zero =>
    intro i n hi hn
    obtain ⟨n, rfl⟩ : ∃ k, n = k + 1 := ⟨n - 1, by omega⟩
    have : i = 4 := by omega
    subst this
    exact br_t (by decide) h
  | succ m ih =>
    intro i n hi hn
    obtain ⟨n, rfl⟩ : ∃ k, n = k + 1 := ⟨n - 1, by omega⟩
    exact br_f (nI_ge (b := 4) (by omega) (by omega)) (And.intro (vp_in_nI (by omega) (by omega)) (nm_r (e' := sf_cp (fun _ => 0) oC (i + 1)) (by rw [nI_clamp (by omega), ← sf_cp_s]) (nm_r (nI_1 i) (ih (i + 1) n (by omega) (by omega)))))
theorem sf_y_st28 {post : Int32 → SY → Prop} (hnv : nv ≤ 8) (h : post 0 ((nI nv), yt, yo, yc, 4, yf, 0, yr, K, A, L, aI, (sf_cp aI aS nv), (sf_cp aI M nv), (sf_cp (fun _ => 0) oC 4), oV, kS, kM, kC, kV, wK, wV, wS, wL)) : ∀ (m i n : Nat), i + m = nv → m < n → wY_start_28 post (nI nv) yt yo yc ys yf yp yr n (nI i) K A L aI (sf_cp aI aS i) (sf_cp aI M i) oC oV kS kM kC kV wK wV wS wL := by
  intro m
  induction m with
  | zero =>
    intro i n hi hn
    obtain ⟨n, rfl⟩ : ∃ k, n = k + 1 := ⟨n - 1, by omega⟩
    have : i = nv := by omega
    subst this
    have S := sf_y_st68 (ys := ys) (yp := yp) h 4 0 5 (by omega) (by omega)
    rw [sf_cp_0] at S
    exact br_t (nI_le (Nat.le_refl _) (by omega)) ⟨5, S⟩
  | succ m ih =>
    intro i n hi hn
    obtain ⟨n, rfl⟩ : ∃ k, n = k + 1 := ⟨n - 1, by omega⟩
    have cl : (nI i).toNatClampNeg = i := nI_clamp (by omega)
    have hv : vp_in (nI i) 8 := vp_in_nI (by omega) (by omega)
    exact br_f (nI_ge (by omega) (by omega)) (And.intro hv (And.intro hv (nm_r (e' := sf_cp aI aS (i + 1)) (by rw [cl, ← sf_cp_s]) (And.intro hv (And.intro hv (nm_r (e' := sf_cp aI M (i + 1)) (by rw [cl, ← sf_cp_s]) (nm_r (nI_1 i) (ih (i + 1) n (by omega) (by omega)))))))))
theorem sf_y_kp82 {post : Int32 → SY → Prop} (h : post 0 (yv, yt, yo, yc, ys, yf, yp, yr, K, A, L, aI, aS, M, oC, oV, kS, kM, kC, (sf_cp oV kV 64), wK, wV, wS, wL)) : ∀ (m i n : Nat), i + m = 64 → m < n → wY_keep_82 post yv yt yo yc ys yf yp yr n (nI i) K A L aI aS M oC oV kS kM kC (sf_cp oV kV i) wK wV wS wL := by
  intro m
  induction m with
  | zero =>
    intro i n hi hn
    obtain ⟨n, rfl⟩ : ∃ k, n = k + 1 := ⟨n - 1, by omega⟩
    have : i = 64 := by omega
    subst this
    exact br_t (nI_le (a := 64) (b := 64) (by omega) (by omega)) h
  | succ m ih =>
    intro i n hi hn
    obtain ⟨n, rfl⟩ : ∃ k, n = k + 1 := ⟨n - 1, by omega⟩
    have cl : (nI i).toNatClampNeg = i := nI_clamp (by omega)
    have hv : vp_in (nI i) 64 := vp_in_nI (by omega) (by omega)
    exact br_f (nI_ge (b := 64) (by omega) (by omega)) (And.intro hv (And.intro hv (nm_r (e' := sf_cp oV kV (i + 1)) (by rw [cl, ← sf_cp_s]) (nm_r (nI_1 i) (ih (i + 1) n (by omega) (by omega))))))
theorem sf_y_kp57 {post : Int32 → SY → Prop} (h : post 0 (yv, yt, yo, yc, ys, yf, yp, yr, K, A, L, aI, aS, M, oC, oV, kS, kM, (sf_cp oC kC 4), (sf_cp oV kV 64), wK, wV, wS, wL)) : ∀ (m i n : Nat), i + m = 4 → m < n → wY_keep_57 post yv yt yo yc ys yf yp yr n (nI i) K A L aI aS M oC oV kS kM (sf_cp oC kC i) kV wK wV wS wL := by
  intro m
  induction m with
  | zero =>
    intro i n hi hn
    obtain ⟨n, rfl⟩ : ∃ k, n = k + 1 := ⟨n - 1, by omega⟩
    have : i = 4 := by omega
    subst this
    have S := sf_y_kp82 h 64 0 65 (by omega) (by omega)
    rw [sf_cp_0] at S
    exact br_t (by decide) ⟨65, S⟩
  | succ m ih =>
    intro i n hi hn
    obtain ⟨n, rfl⟩ : ∃ k, n = k + 1 := ⟨n - 1, by omega⟩
    have cl : (nI i).toNatClampNeg = i := nI_clamp (by omega)
    have hv : vp_in (nI i) 4 := vp_in_nI (by omega) (by omega)
    exact br_f (nI_ge (b := 4) (by omega) (by omega)) (And.intro hv (And.intro hv (nm_r (e' := sf_cp oC kC (i + 1)) (by rw [cl, ← sf_cp_s]) (nm_r (nI_1 i) (ih (i + 1) n (by omega) (by omega))))))
theorem sf_y_kp17 {post : Int32 → SY → Prop} (hnv : nv ≤ 8) (h : post 0 ((nI nv), yt, yo, yc, ys, yf, yp, yr, K, A, L, aI, aS, M, oC, oV, (sf_cp aS kS nv), (sf_cp M kM nv), (sf_cp oC kC 4), (sf_cp oV kV 64), wK, wV, wS, wL)) : ∀ (m i n : Nat), i + m = nv → m < n → wY_keep_17 post (nI nv) yt yo yc ys yf yp yr n (nI i) K A L aI aS M oC oV (sf_cp aS kS i) (sf_cp M kM i) kC kV wK wV wS wL := by
  intro m
  induction m with
  | zero =>
    intro i n hi hn
    obtain ⟨n, rfl⟩ : ∃ k, n = k + 1 := ⟨n - 1, by omega⟩
    have : i = nv := by omega
    subst this
    have S := sf_y_kp57 h 4 0 5 (by omega) (by omega)
    rw [sf_cp_0] at S
    exact br_t (nI_le (Nat.le_refl _) (by omega)) ⟨5, S⟩
  | succ m ih =>
    intro i n hi hn
    obtain ⟨n, rfl⟩ : ∃ k, n = k + 1 := ⟨n - 1, by omega⟩
    have cl : (nI i).toNatClampNeg = i := nI_clamp (by omega)
    have hv : vp_in (nI i) 8 := vp_in_nI (by omega) (by omega)
    exact br_f (nI_ge (by omega) (by omega)) (And.intro hv (And.intro hv (nm_r (e' := sf_cp aS kS (i + 1)) (by rw [cl, ← sf_cp_s]) (And.intro hv (And.intro hv (nm_r (e' := sf_cp M kM (i + 1)) (by rw [cl, ← sf_cp_s]) (nm_r (nI_1 i) (ih (i + 1) n (by omega) (by omega)))))))))
end
end
section
/-! kept and present records compared: both sides -/
section
variable {xv xt xo xc xs xf xr xp xl xn xq xy xd xe xw xk xj xh xz : Int32} {K A L aI aS M oL oC oV kS kM kC kV cO cA cT cE oP bK bB bL sT rE rO fL : Nat → Int32}
variable {yt yo yc ys yf yp yr : Int32} {wK wV wS wL : Nat → Int32}
variable {nv no : Nat} {lv : Int32}
theorem sf_sa (hnv : nv ≤ 8) : ∀ (m i : Nat), i + m = nv → ∃ r : Int32, (∀ (post : Int32 → Prop) (n : Nat), m < n → post r → wX_startsAgree_19 post lv (nI nv) xt xo xc xs xf xr xp xl xn xq xy xd xe xw xk xj xh xz K A L aI aS M oL oC oV kS kM kC kV cO cA cT cE oP bK bB bL sT rE rO fL n (nI i)) ∧ (∀ (post : Int32 → Prop) (n : Nat), m < n → post r → wY_startsAgree_20 post lv (nI nv) yt yo yc ys yf yp yr K A L aI aS M oC oV kS kM kC kV wK wV wS wL n (nI i)) := by
  intro m
  induction m with
  | zero =>
    intro i hi
    have : i = nv := by omega
    subst this
    refine ⟨1, fun post n hn hp => ?_, fun post n hn hp => ?_⟩
    · obtain ⟨n, rfl⟩ : ∃ k, n = k + 1 := ⟨n - 1, by omega⟩
      exact br_t (nI_le (Nat.le_refl _) (by omega)) hp
    · obtain ⟨n, rfl⟩ : ∃ k, n = k + 1 := ⟨n - 1, by omega⟩
      exact br_t (nI_le (Nat.le_refl _) (by omega)) hp
  | succ m ih =>
    intro i hi
    have cl : (nI i).toNatClampNeg = i := nI_clamp (by omega)
    have hv : vp_in (nI i) 8 := vp_in_nI (by omega) (by omega)
    have hge : ¬ nI nv ≤ nI i := nI_ge (by omega) (by omega)
    obtain ⟨r, PX, PY⟩ := ih (i + 1) (by omega)
    by_cases a : (L i &&& lv) = L i
    · by_cases b : kS i = aS i
      · refine ⟨r, fun post n hn hp => ?_, fun post n hn hp => ?_⟩
        · obtain ⟨n, rfl⟩ : ∃ k, n = k + 1 := ⟨n - 1, by omega⟩
          refine br_f hge (And.intro hv ?_)
          rw [cl]
          exact sf_x_below (fun _ => br_f (by decide) (And.intro hv (And.intro hv (br_t b (nm_r (nI_1 i) (PX post n (by omega) hp)))))) (fun z => absurd a z)
        · obtain ⟨n, rfl⟩ : ∃ k, n = k + 1 := ⟨n - 1, by omega⟩
          exact br_f hge (And.intro hv (And.intro hv (br_t (by rw [cl]; exact a) (And.intro hv (And.intro hv (br_t (by rw [cl]; exact b) (nm_r (nI_1 i) (PY post n (by omega) hp))))))))
      · refine ⟨0, fun post n hn hp => ?_, fun post n hn hp => ?_⟩
        · obtain ⟨n, rfl⟩ : ∃ k, n = k + 1 := ⟨n - 1, by omega⟩
          refine br_f hge (And.intro hv ?_)
          rw [cl]
          exact sf_x_below (fun _ => br_f (by decide) (And.intro hv (And.intro hv (br_f b hp)))) (fun z => absurd a z)
        · obtain ⟨n, rfl⟩ : ∃ k, n = k + 1 := ⟨n - 1, by omega⟩
          exact br_f hge (And.intro hv (And.intro hv (br_t (by rw [cl]; exact a) (And.intro hv (And.intro hv (br_f (by rw [cl]; exact b) hp))))))
    · refine ⟨r, fun post n hn hp => ?_, fun post n hn hp => ?_⟩
      · obtain ⟨n, rfl⟩ : ∃ k, n = k + 1 := ⟨n - 1, by omega⟩
        refine br_f hge (And.intro hv ?_)
        rw [cl]
        exact sf_x_below (fun z => absurd z a) (fun _ => br_t rfl (nm_r (nI_1 i) (PX post n (by omega) hp)))
      · obtain ⟨n, rfl⟩ : ∃ k, n = k + 1 := ⟨n - 1, by omega⟩
        exact br_f hge (And.intro hv (And.intro hv (br_f (by rw [cl]; exact a) (nm_r (nI_1 i) (PY post n (by omega) hp)))))
/-- one channel -/
theorem sf_ch (hno : no ≤ 16) {ch : Nat} (hch : ch < 4) : ∀ (m i : Nat), i + m = no → ∃ b : Bool, (∀ (post : Int32 → Prop) (n : Nat), m < n → (b = true → post 1) → (b = false → post 0) → wX_channelAgrees_27 post (oC ch) (nI ch * 16) xv xt (nI no) xc xs xf xr xp xl xn xq xy xd xe xw xk xj xh xz K A L aI aS M oL oC oV kS kM kC kV cO cA cT cE oP bK bB bL sT rE rO fL n (nI i)) ∧
    (∀ (post J : Int32 → Prop) (n : Nat), m < n → (b = true → J (nI (ch + 1))) → (b = false → post 0) → wY_endsAgree_109 post J lv (nI ch) (nI nv) yt (nI no) yc ys yf yp yr K A L aI aS M oC oV kS kM kC kV wK wV wS wL n (nI i)) := by
  have clc : (nI ch).toNatClampNeg = ch := nI_clamp (by omega)
  have hvc : vp_in (nI ch) 4 := vp_in_nI hch (by omega)
  intro m
  induction m with
  | zero =>
    intro i hi
    have : i = no := by omega
    subst this
    refine ⟨true, fun post n hn hp _ => ?_, fun post J n hn hp _ => ?_⟩
    · obtain ⟨n, rfl⟩ : ∃ k, n = k + 1 := ⟨n - 1, by omega⟩
      exact br_t (nI_le (Nat.le_refl _) (by omega)) (hp rfl)
    · obtain ⟨n, rfl⟩ : ∃ k, n = k + 1 := ⟨n - 1, by omega⟩
      exact br_t (nI_le (Nat.le_refl _) (by omega)) (nm_r (nI_1 ch) (hp rfl))
  | succ m ih =>
    intro i hi
    have hge : ¬ nI no ≤ nI i := nI_ge (by omega) (by omega)
    have e : nI ch * 16 + nI i = nI (ch * 16 + i) := by rw [show (16 : Int32) = nI 16 from rfl, pk_mul, nI_add]
    have hv : vp_in (nI ch * 16 + nI i) 64 := by rw [e]; exact vp_in_nI (by omega) (by omega)
    obtain ⟨b, PX, PY⟩ := ih (i + 1) (by omega)
    by_cases z : oC ch ≤ nI i
    · refine ⟨true, fun post n hn hp _ => ?_, fun post J n hn hp _ => ?_⟩
      · obtain ⟨n, rfl⟩ : ∃ k, n = k + 1 := ⟨n - 1, by omega⟩
        exact br_f hge (br_t z (hp rfl))
      · obtain ⟨n, rfl⟩ : ∃ k, n = k + 1 := ⟨n - 1, by omega⟩
        exact br_f hge (And.intro hvc (br_t (by rw [clc]; exact z) (nm_r (nI_1 ch) (hp rfl))))
    · by_cases y : kV (nI ch * 16 + nI i).toNatClampNeg = oV (nI ch * 16 + nI i).toNatClampNeg
      · refine ⟨b, fun post n hn hp h0 => ?_, fun post J n hn hp h0 => ?_⟩
        · obtain ⟨n, rfl⟩ : ∃ k, n = k + 1 := ⟨n - 1, by omega⟩
          exact br_f hge (br_f z (And.intro hv (And.intro hv (br_t y (nm_r (nI_1 i) (PX post n (by omega) hp h0))))))
        · obtain ⟨n, rfl⟩ : ∃ k, n = k + 1 := ⟨n - 1, by omega⟩
          exact br_f hge (And.intro hvc (br_f (by rw [clc]; exact z) (And.intro hv (And.intro hv (br_t y (nm_r (nI_1 i) (PY post J n (by omega) hp h0)))))))
      · refine ⟨false, fun post n hn _ h0 => ?_, fun post J n hn _ h0 => ?_⟩
        · obtain ⟨n, rfl⟩ : ∃ k, n = k + 1 := ⟨n - 1, by omega⟩
          exact br_f hge (br_f z (And.intro hv (And.intro hv (br_f y (h0 rfl)))))
        · obtain ⟨n, rfl⟩ : ∃ k, n = k + 1 := ⟨n - 1, by omega⟩
          exact br_f hge (And.intro hvc (br_f (by rw [clc]; exact z) (And.intro hv (And.intro hv (br_f y (h0 rfl))))))
theorem sf_ea4 (hno : no ≤ 16) : ∀ (m i : Nat), i + m = 4 → ∃ r : Int32, (∀ (post : Int32 → Prop) (n : Nat), m < n → post r → wX_endsAgree_74 post lv xv xt (nI no) xc xs xf xr xp xl xn xq xy xd xe xw xk xj xh xz K A L aI aS M oL oC oV kS kM kC kV cO cA cT cE oP bK bB bL sT rE rO fL n (nI i)) ∧ (∀ (post : Int32 → Prop) (n : Nat), m < n → post r → wY_endsAgree_78 post lv (nI nv) yt (nI no) yc ys yf yp yr K A L aI aS M oC oV kS kM kC kV wK wV wS wL n (nI i)) := by
  intro m
  induction m with
  | zero =>
    intro i hi
    have : i = 4 := by omega
    subst this
    refine ⟨1, fun post n hn hp => ?_, fun post n hn hp => ?_⟩
    · obtain ⟨n, rfl⟩ : ∃ k, n = k + 1 := ⟨n - 1, by omega⟩
      exact br_t (by decide) hp
    · obtain ⟨n, rfl⟩ : ∃ k, n = k + 1 := ⟨n - 1, by omega⟩
      exact br_t (by decide) hp
  | succ m ih =>
    intro i hi
    have cl : (nI i).toNatClampNeg = i := nI_clamp (by omega)
    have hv : vp_in (nI i) 4 := vp_in_nI (by omega) (by omega)
    have hx : ¬ (3 : Int32) < nI i := nI_nlt (b := i) (a := 3) (by omega) (by omega)
    have hy : ¬ (4 : Int32) ≤ nI i := nI_ge (b := 4) (by omega) (by omega)
    obtain ⟨r, PX, PY⟩ := ih (i + 1) (by omega)
    by_cases a : (nI i &&& lv) = nI i
    · by_cases z : kC i = oC i
      · obtain ⟨b, CX, CY⟩ := sf_ch (lv := lv) (nv := nv) (yt := yt) (yc := yc) (ys := ys) (yf := yf) (yp := yp) (yr := yr) (wK := wK) (wV := wV) (wS := wS) (wL := wL) (xv := xv) (xt := xt) (xc := xc) (xs := xs) (xf := xf) (xr := xr) (xp := xp) (xl := xl) (xn := xn) (xq := xq) (xy := xy) (xd := xd) (xe := xe) (xw := xw) (xk := xk) (xj := xj) (xh := xh) (xz := xz) (K := K) (A := A) (L := L) (aI := aI) (aS := aS) (M := M) (oL := oL) (oC := oC) (oV := oV) (kS := kS) (kM := kM) (kC := kC) (kV := kV) (cO := cO) (cA := cA) (cT := cT) (cE := cE) (oP := oP) (bK := bK) (bB := bB) (bL := bL) (sT := sT) (rE := rE) (rO := rO) (fL := fL) hno (ch := i) (by omega) no 0 (by omega)
        cases b with
        | true =>
          refine ⟨r, fun post n hn hp => ?_, fun post n hn hp => ?_⟩
          · obtain ⟨n, rfl⟩ : ∃ k, n = k + 1 := ⟨n - 1, by omega⟩
            refine br_f hx (sf_x_below (fun _ => br_f (by decide) (And.intro hv (nm_r (e' := oC i) (by rw [cl]) (And.intro hv (br_t (by rw [cl]; exact z) (nm_e ⟨no + 1, CX _ (no + 1) (by omega) (fun _ => ?_) (fun y => (nomatch y))⟩)))))) (fun y => absurd a y))
            exact br_f (by decide) (nm_r (nI_1 i) (PX post n (by omega) hp))
          · obtain ⟨n, rfl⟩ : ∃ k, n = k + 1 := ⟨n - 1, by omega⟩
            exact br_f hy (br_t a (And.intro hv (And.intro hv (br_t (by rw [cl]; exact z) ⟨no + 1, CY post _ (no + 1) (by omega) (fun _ => PY post n (by omega) hp) (fun y => (nomatch y))⟩))))
        | false =>
          refine ⟨0, fun post n hn hp => ?_, fun post n hn hp => ?_⟩
          · obtain ⟨n, rfl⟩ : ∃ k, n = k + 1 := ⟨n - 1, by omega⟩
            refine br_f hx (sf_x_below (fun _ => br_f (by decide) (And.intro hv (nm_r (e' := oC i) (by rw [cl]) (And.intro hv (br_t (by rw [cl]; exact z) (nm_e ⟨no + 1, CX _ (no + 1) (by omega) (fun y => (nomatch y)) (fun _ => ?_)⟩)))))) (fun y => absurd a y))
            exact br_t rfl hp
          · obtain ⟨n, rfl⟩ : ∃ k, n = k + 1 := ⟨n - 1, by omega⟩
            exact br_f hy (br_t a (And.intro hv (And.intro hv (br_t (by rw [cl]; exact z) ⟨no + 1, CY post _ (no + 1) (by omega) (fun y => (nomatch y)) (fun _ => hp)⟩))))
      · refine ⟨0, fun post n hn hp => ?_, fun post n hn hp => ?_⟩
        · obtain ⟨n, rfl⟩ : ∃ k, n = k + 1 := ⟨n - 1, by omega⟩
          refine br_f hx (sf_x_below (fun _ => br_f (by decide) (And.intro hv (nm_r (e' := oC i) (by rw [cl]) (And.intro hv (br_f (by rw [cl]; exact z) ?_))))) (fun y => absurd a y))
          exact br_t rfl hp
        · obtain ⟨n, rfl⟩ : ∃ k, n = k + 1 := ⟨n - 1, by omega⟩
          exact br_f hy (br_t a (And.intro hv (And.intro hv (br_f (by rw [cl]; exact z) hp))))
    · refine ⟨r, fun post n hn hp => ?_, fun post n hn hp => ?_⟩
      · obtain ⟨n, rfl⟩ : ∃ k, n = k + 1 := ⟨n - 1, by omega⟩
        exact br_f hx (sf_x_below (fun z => absurd z a) (fun _ => br_t rfl (nm_r (nI_1 i) (PX post n (by omega) hp))))
      · obtain ⟨n, rfl⟩ : ∃ k, n = k + 1 := ⟨n - 1, by omega⟩
        exact br_f hy (br_f a (nm_r (nI_1 i) (PY post n (by omega) hp)))
theorem sf_ea (hnv : nv ≤ 8) (hno : no ≤ 16) : ∀ (m i : Nat), i + m = nv → ∃ r : Int32, (∀ (post : Int32 → Prop) (n : Nat), m < n → post r → wX_endsAgree_27 post lv (nI nv) xt (nI no) xc xs xf xr xp xl xn xq xy xd xe xw xk xj xh xz K A L aI aS M oL oC oV kS kM kC kV cO cA cT cE oP bK bB bL sT rE rO fL n (nI i)) ∧ (∀ (post : Int32 → Prop) (n : Nat), m < n → post r → wY_endsAgree_28 post lv (nI nv) yt (nI no) yc ys yf yp yr K A L aI aS M oC oV kS kM kC kV wK wV wS wL n (nI i)) := by
  intro m
  induction m with
  | zero =>
    intro i hi
    have : i = nv := by omega
    subst this
    obtain ⟨r, PX, PY⟩ := sf_ea4 (lv := lv) (nv := i) (yt := yt) (yc := yc) (ys := ys) (yf := yf) (yp := yp) (yr := yr) (wK := wK) (wV := wV) (wS := wS) (wL := wL) (xv := nI i) (xt := xt) (xc := xc) (xs := xs) (xf := xf) (xr := xr) (xp := xp) (xl := xl) (xn := xn) (xq := xq) (xy := xy) (xd := xd) (xe := xe) (xw := xw) (xk := xk) (xj := xj) (xh := xh) (xz := xz) (K := K) (A := A) (L := L) (aI := aI) (aS := aS) (M := M) (oL := oL) (oC := oC) (oV := oV) (kS := kS) (kM := kM) (kC := kC) (kV := kV) (cO := cO) (cA := cA) (cT := cT) (cE := cE) (oP := oP) (bK := bK) (bB := bB) (bL := bL) (sT := sT) (rE := rE) (rO := rO) (fL := fL) hno 4 0 (by omega)
    refine ⟨r, fun post n hn hp => ?_, fun post n hn hp => ?_⟩
    · obtain ⟨n, rfl⟩ : ∃ k, n = k + 1 := ⟨n - 1, by omega⟩
      exact br_t (nI_le (Nat.le_refl _) (by omega)) ⟨5, PX post 5 (by omega) hp⟩
    · obtain ⟨n, rfl⟩ : ∃ k, n = k + 1 := ⟨n - 1, by omega⟩
      exact br_t (nI_le (Nat.le_refl _) (by omega)) ⟨5, PY post 5 (by omega) hp⟩
  | succ m ih =>
    intro i hi
    have cl : (nI i).toNatClampNeg = i := nI_clamp (by omega)
    have hv : vp_in (nI i) 8 := vp_in_nI (by omega) (by omega)
    have hge : ¬ nI nv ≤ nI i := nI_ge (by omega) (by omega)
    obtain ⟨r, PX, PY⟩ := ih (i + 1) (by omega)
    by_cases a : (L i &&& lv) = L i
    · by_cases b : kM i = M i
      · refine ⟨r, fun post n hn hp => ?_, fun post n hn hp => ?_⟩
        · obtain ⟨n, rfl⟩ : ∃ k, n = k + 1 := ⟨n - 1, by omega⟩
          refine br_f hge (And.intro hv ?_)
          rw [cl]
          exact sf_x_below (fun _ => br_f (by decide) (And.intro hv (And.intro hv (br_t b (nm_r (nI_1 i) (PX post n (by omega) hp)))))) (fun z => absurd a z)
        · obtain ⟨n, rfl⟩ : ∃ k, n = k + 1 := ⟨n - 1, by omega⟩
          exact br_f hge (And.intro hv (And.intro hv (br_t (by rw [cl]; exact a) (And.intro hv (And.intro hv (br_t (by rw [cl]; exact b) (nm_r (nI_1 i) (PY post n (by omega) hp))))))))
      · refine ⟨0, fun post n hn hp => ?_, fun post n hn hp => ?_⟩
        · obtain ⟨n, rfl⟩ : ∃ k, n = k + 1 := ⟨n - 1, by omega⟩
          refine br_f hge (And.intro hv ?_)
          rw [cl]
          exact sf_x_below (fun _ => br_f (by decide) (And.intro hv (And.intro hv (br_f b hp)))) (fun z => absurd a z)
        · obtain ⟨n, rfl⟩ : ∃ k, n = k + 1 := ⟨n - 1, by omega⟩
          exact br_f hge (And.intro hv (And.intro hv (br_t (by rw [cl]; exact a) (And.intro hv (And.intro hv (br_f (by rw [cl]; exact b) hp))))))
    · refine ⟨r, fun post n hn hp => ?_, fun post n hn hp => ?_⟩
      · obtain ⟨n, rfl⟩ : ∃ k, n = k + 1 := ⟨n - 1, by omega⟩
        refine br_f hge (And.intro hv ?_)
        rw [cl]
        exact sf_x_below (fun z => absurd z a) (fun _ => br_t rfl (nm_r (nI_1 i) (PX post n (by omega) hp)))
      · obtain ⟨n, rfl⟩ : ∃ k, n = k + 1 := ⟨n - 1, by omega⟩
        exact br_f hge (And.intro hv (And.intro hv (br_f (by rw [cl]; exact a) (nm_r (nI_1 i) (PY post n (by omega) hp)))))
end
end
section
/-! the relation -/
def sf_FA (nv nt no c : Nat) (K A L : Nat → Int32) (xs xp xl yp xn : Int32) (cO cA cT cE : Nat → Int32) : Prop :=
  2 ≤ nv ∧ nv ≤ 8 ∧ nt ≤ 96 ∧ no ≤ 16 ∧ c ≤ nt ∧ (∀ i, i < c → sf_TV nv (K i) (A i)) ∧ sf_LB nv L ∧ (xs = 0 ∨ sf_CM nv c K A xn cO cA cT cE) ∧
  (xs = 4 → ∃ p, p ≤ c ∧ sf_BD K c p ∧ xl = nI p ∧ yp = nI p ∧ xp = nI (sf_ad K p))
/-- shared tokens, labels, inputs, stores, channels and record; compiled code where the status isn't EDITING; the place where it is RUNNING -/
def i_Rel (k : Nat) (u : SX) (v : SY) : Prop := ∃ (nv nt no c : Nat) (xs xf xr xp xl xn xq xy xd xe xw xk xj xh xz yp : Int32) (K A L aI aS M oL oC oV kS kM kC kV cO cA cT cE oP bK bB bL sT rE rO fL wK wV wS wL : Nat → Int32), u = ((nI nv), (nI nt), (nI no), (nI c), xs, xf, xr, xp, xl, xn, xq, xy, xd, xe, xw, xk, xj, xh, xz, K, A, L, aI, aS, M, oL, oC, oV, kS, kM, kC, kV, cO, cA, cT, cE, oP, bK, bB, bL, sT, rE, rO, fL) ∧ v = ((nI nv), (nI nt), (nI no), (nI c), xs, xf, yp, xr, K, A, L, aI, aS, M, oC, oV, kS, kM, kC, kV, wK, wV, wS, wL) ∧ sf_FA nv nt no c K A L xs xp xl yp xn cO cA cT cE
theorem sf_in {k : Nat} {nv nt no c : Nat} {xs xf xr xp xl xn xq xy xd xe xw xk xj xh xz yp : Int32} {K A L aI aS M oL oC oV kS kM kC kV cO cA cT cE oP bK bB bL sT rE rO fL wK wV wS wL : Nat → Int32} (F : sf_FA nv nt no c K A L xs xp xl yp xn cO cA cT cE) : i_Rel k ((nI nv), (nI nt), (nI no), (nI c), xs, xf, xr, xp, xl, xn, xq, xy, xd, xe, xw, xk, xj, xh, xz, K, A, L, aI, aS, M, oL, oC, oV, kS, kM, kC, kV, cO, cA, cT, cE, oP, bK, bB, bL, sT, rE, rO, fL) ((nI nv), (nI nt), (nI no), (nI c), xs, xf, yp, xr, K, A, L, aI, aS, M, oC, oV, kS, kM, kC, kV, wK, wV, wS, wL) := ⟨nv, nt, no, c, xs, xf, xr, xp, xl, xn, xq, xy, xd, xe, xw, xk, xj, xh, xz, yp, K, A, L, aI, aS, M, oL, oC, oV, kS, kM, kC, kV, cO, cA, cT, cE, oP, bK, bB, bL, sT, rE, rO, fL, wK, wV, wS, wL, rfl, rfl, F⟩
theorem sf_el {k : Nat} {P : SX → SY → Prop} (h : ∀ (nv nt no c : Nat) (xs xf xr xp xl xn xq xy xd xe xw xk xj xh xz yp : Int32) (K A L aI aS M oL oC oV kS kM kC kV cO cA cT cE oP bK bB bL sT rE rO fL wK wV wS wL : Nat → Int32), sf_FA nv nt no c K A L xs xp xl yp xn cO cA cT cE → P ((nI nv), (nI nt), (nI no), (nI c), xs, xf, xr, xp, xl, xn, xq, xy, xd, xe, xw, xk, xj, xh, xz, K, A, L, aI, aS, M, oL, oC, oV, kS, kM, kC, kV, cO, cA, cT, cE, oP, bK, bB, bL, sT, rE, rO, fL) ((nI nv), (nI nt), (nI no), (nI c), xs, xf, yp, xr, K, A, L, aI, aS, M, oC, oV, kS, kM, kC, kV, wK, wV, wS, wL)) {u : SX} {v : SY} (I : i_Rel k u v) : P u v :=
  Exists.elim I fun nv I => Exists.elim I fun nt I => Exists.elim I fun no I => Exists.elim I fun c I => Exists.elim I fun xs I => Exists.elim I fun xf I => Exists.elim I fun xr I => Exists.elim I fun xp I => Exists.elim I fun xl I => Exists.elim I fun xn I => Exists.elim I fun xq I => Exists.elim I fun xy I => Exists.elim I fun xd I => Exists.elim I fun xe I => Exists.elim I fun xw I => Exists.elim I fun xk I => Exists.elim I fun xj I => Exists.elim I fun xh I => Exists.elim I fun xz I => Exists.elim I fun yp I => Exists.elim I fun K I => Exists.elim I fun A I => Exists.elim I fun L I => Exists.elim I fun aI I => Exists.elim I fun aS I => Exists.elim I fun M I => Exists.elim I fun oL I => Exists.elim I fun oC I => Exists.elim I fun oV I => Exists.elim I fun kS I => Exists.elim I fun kM I => Exists.elim I fun kC I => Exists.elim I fun kV I => Exists.elim I fun cO I => Exists.elim I fun cA I => Exists.elim I fun cT I => Exists.elim I fun cE I => Exists.elim I fun oP I => Exists.elim I fun bK I => Exists.elim I fun bB I => Exists.elim I fun bL I => Exists.elim I fun sT I => Exists.elim I fun rE I => Exists.elim I fun rO I => Exists.elim I fun fL I => Exists.elim I fun wK I => Exists.elim I fun wV I => Exists.elim I fun wS I => Exists.elim I fun wL I =>  by
    obtain ⟨rfl, rfl, F⟩ := I
    exact h nv nt no c xs xf xr xp xl xn xq xy xd xe xw xk xj xh xz yp K A L aI aS M oL oC oV kS kM kC kV cO cA cT cE oP bK bB bL sT rE rO fL wK wV wS wL F
theorem i_up {k : Nat} {u : SX} {v : SY} (h : i_Rel k u v) : i_Rel (k + 4) u v := h
theorem sf_lab4 : ∀ j, j < 4 → ∀ b, 2 ≤ b → bt (nI j) b = false := by
  intro j hj b hb
  rcases Nat.lt_or_ge b 32 with h | h
  · exact (by decide +kernel : ∀ j, j < 4 → ∀ b, b < 32 → 2 ≤ b → bt (nI j) b = false) j hj b h hb
  · exact b_big h
theorem i_vc0 (k0 : Int32) (k1 : Int32) (k2 : Int32) : wpX_init (fun u => wpY_init (fun v => i_Rel 3 u v) k0 k1 k2) k0 k1 k2 := by
  obtain ⟨nv, a1, a2, a3⟩ := sf_c3_in (x := k0) (lo := 2) (hi := 8) (by omega) (by omega)
  obtain ⟨nt, b1, b2, b3⟩ := sf_c3_in (x := k1) (lo := 16) (hi := 96) (by omega) (by omega)
  obtain ⟨no, c1, c2, c3⟩ := sf_c3_in (x := k2) (lo := 2) (hi := 16) (by omega) (by omega)
  have a3' : sf_c3 k0 2 8 = nI nv := a3
  have b3' : sf_c3 k1 16 96 = nI nt := b3
  have c3' : sf_c3 k2 2 16 = nI no := c3
  unfold wpX_init
  refine sf_x_clamp ?_
  rw [a3']
  refine sf_x_clamp ?_
  rw [b3']
  refine sf_x_clamp ?_
  rw [c3']
  unfold wpY_init
  refine sf_y_clamp ?_
  rw [a3']
  refine sf_y_clamp ?_
  rw [b3']
  refine sf_y_clamp ?_
  rw [c3']
  refine sf_in (c := 0) ⟨a1, a2, b2, c2, by omega, fun i hi => absurd hi (by omega), fun i hi b hb => b_0 b, Or.inl rfl, fun z => absurd z (by decide)⟩
theorem i_vc_status {k : Nat} {u : SX} {v : SY} (I : i_Rel k u v) (hk : k + 4 ≤ 2051) : wpX_status (fun r => wpY_status (fun r' => r' = r ∧ i_Rel (k + 4) u v) v) u := by
  refine sf_el (P := fun u v => wpX_status (fun r => wpY_status (fun r' => r' = r ∧ i_Rel (k + 4) u v) v) u) ?_ I
  intro nv nt no c xs xf xr xp xl xn xq xy xd xe xw xk xj xh xz yp K A L aI aS M oL oC oV kS kM kC kV cO cA cT cE oP bK bB bL sT rE rO fL wK wV wS wL F
  exact ⟨rfl, sf_in F⟩
theorem i_vc_tokenCount {k : Nat} {u : SX} {v : SY} (I : i_Rel k u v) (hk : k + 4 ≤ 2051) : wpX_tokenCount (fun r => wpY_tokenCount (fun r' => r' = r ∧ i_Rel (k + 4) u v) v) u := by
  refine sf_el (P := fun u v => wpX_tokenCount (fun r => wpY_tokenCount (fun r' => r' = r ∧ i_Rel (k + 4) u v) v) u) ?_ I
  intro nv nt no c xs xf xr xp xl xn xq xy xd xe xw xk xj xh xz yp K A L aI aS M oL oC oV kS kM kC kV cO cA cT cE oP bK bB bL sT rE rO fL wK wV wS wL F
  exact ⟨rfl, sf_in F⟩
theorem i_vc_fault {k : Nat} {u : SX} {v : SY} (I : i_Rel k u v) (hk : k + 4 ≤ 2051) : wpX_fault (fun r => wpY_fault (fun r' => r' = r ∧ i_Rel (k + 4) u v) v) u := by
  refine sf_el (P := fun u v => wpX_fault (fun r => wpY_fault (fun r' => r' = r ∧ i_Rel (k + 4) u v) v) u) ?_ I
  intro nv nt no c xs xf xr xp xl xn xq xy xd xe xw xk xj xh xz yp K A L aI aS M oL oC oV kS kM kC kV cO cA cT cE oP bK bB bL sT rE rO fL wK wV wS wL F
  exact ⟨rfl, sf_in F⟩
theorem i_vc_position {k : Nat} {u : SX} {v : SY} (I : i_Rel k u v) (hk : k + 4 ≤ 2051) : wpX_position (fun r => wpY_position (fun r' => r' = r ∧ i_Rel (k + 4) u v) v) u := by
  refine sf_el (P := fun u v => wpX_position (fun r => wpY_position (fun r' => r' = r ∧ i_Rel (k + 4) u v) v) u) ?_ I
  intro nv nt no c xs xf xr xp xl xn xq xy xd xe xw xk xj xh xz yp K A L aI aS M oL oC oV kS kM kC kV cO cA cT cE oP bK bB bL sT rE rO fL wK wV wS wL F
  by_cases a : xs = 4
  · obtain ⟨p, _, _, q1, q2, _⟩ := F.2.2.2.2.2.2.2.2 a
    exact br_t a (br_t a ⟨q2.trans q1.symm, sf_in F⟩)
  · by_cases b : xs = 5
    · exact br_f a (br_t b (br_f a (br_t b ⟨rfl, sf_in F⟩)))
    · exact br_f a (br_f b (br_f a (br_f b ⟨rfl, sf_in F⟩)))
theorem i_vc_tokenAt {k : Nat} {u : SX} {v : SY} (I : i_Rel k u v) (hk : k + 4 ≤ 2051) (v1 : Int32) : wpX_tokenAt (fun r => wpY_tokenAt (fun r' => r' = r ∧ i_Rel (k + 4) u v) v v1) u v1 := by
  refine sf_el (P := fun u v => wpX_tokenAt (fun r => wpY_tokenAt (fun r' => r' = r ∧ i_Rel (k + 4) u v) v v1) u v1) ?_ I
  intro nv nt no c xs xf xr xp xl xn xq xy xd xe xw xk xj xh xz yp K A L aI aS M oL oC oV kS kM kC kV cO cA cT cE oP bK bB bL sT rE rO fL wK wV wS wL F
  have hc : c ≤ 96 := Nat.le_trans F.2.2.2.2.1 F.2.2.1
  by_cases a : v1 < 0
  · exact br_t a (br_t a ⟨rfl, sf_in F⟩)
  · obtain ⟨j, hj, rfl⟩ := nI_of a
    rcases Nat.lt_or_ge j c with z | z
    · have hv : vp_in (nI j) 96 := vp_in_nI (by omega) (by omega)
      have lt := nI_lt z (by omega)
      have T := sf_tok64 (A (nI j).toNatClampNeg)
      refine br_f a (br_t lt (And.intro hv (nm_e (And.intro hv (nm_e (br_f a (br_t lt (And.intro hv (nm_e ?_)))))))))
      by_cases q : 0 ≤ (A (nI j).toNatClampNeg).toInt64
      · rw [if_pos q] at T
        refine br_t q (And.intro hv ⟨?_, sf_in F⟩)
        rw [T]
      · rw [if_neg q] at T
        refine br_f q (nm_e (And.intro hv ⟨?_, sf_in F⟩))
        rw [T]
    · have nlt := nI_nlt z hj
      exact br_f a (br_f nlt (br_f a (br_f nlt ⟨rfl, sf_in F⟩)))
theorem i_vc_label {k : Nat} {u : SX} {v : SY} (I : i_Rel k u v) (hk : k + 4 ≤ 2051) (v1 : Int32) : wpX_label (fun r => wpY_label (fun r' => r' = r ∧ i_Rel (k + 4) u v) v v1) u v1 := by
  refine sf_el (P := fun u v => wpX_label (fun r => wpY_label (fun r' => r' = r ∧ i_Rel (k + 4) u v) v v1) u v1) ?_ I
  intro nv nt no c xs xf xr xp xl xn xq xy xd xe xw xk xj xh xz yp K A L aI aS M oL oC oV kS kM kC kV cO cA cT cE oP bK bB bL sT rE rO fL wK wV wS wL F
  have hnv := F.2.1
  unfold wpX_label
  refine sf_x_isVar (by omega) (fun j hj e => ?_) (fun z => ?_)
  · subst e
    have hv : vp_in (nI j) 8 := vp_in_nI (by omega) (by omega)
    exact br_f (by decide) (And.intro hv (br_f (nI_pos (by omega)) (br_t (nI_lt hj (by omega)) (And.intro hv ⟨rfl, sf_in F⟩))))
  · refine br_t rfl ?_
    rcases z with z | ⟨z, y⟩
    · exact br_t z ⟨rfl, sf_in F⟩
    · exact br_f z (br_f (Int32.not_lt.mpr y) ⟨rfl, sf_in F⟩)
theorem i_vc_input {k : Nat} {u : SX} {v : SY} (I : i_Rel k u v) (hk : k + 4 ≤ 2051) (v1 : Int32) : wpX_input (fun r => wpY_input (fun r' => r' = r ∧ i_Rel (k + 4) u v) v v1) u v1 := by
  refine sf_el (P := fun u v => wpX_input (fun r => wpY_input (fun r' => r' = r ∧ i_Rel (k + 4) u v) v v1) u v1) ?_ I
  intro nv nt no c xs xf xr xp xl xn xq xy xd xe xw xk xj xh xz yp K A L aI aS M oL oC oV kS kM kC kV cO cA cT cE oP bK bB bL sT rE rO fL wK wV wS wL F
  have hnv := F.2.1
  unfold wpX_input
  refine sf_x_isVar (by omega) (fun j hj e => ?_) (fun z => ?_)
  · subst e
    have hv : vp_in (nI j) 8 := vp_in_nI (by omega) (by omega)
    exact br_f (by decide) (And.intro hv (br_f (nI_pos (by omega)) (br_t (nI_lt hj (by omega)) (And.intro hv ⟨rfl, sf_in F⟩))))
  · refine br_t rfl ?_
    rcases z with z | ⟨z, y⟩
    · exact br_t z ⟨rfl, sf_in F⟩
    · exact br_f z (br_f (Int32.not_lt.mpr y) ⟨rfl, sf_in F⟩)
theorem i_vc_value {k : Nat} {u : SX} {v : SY} (I : i_Rel k u v) (hk : k + 4 ≤ 2051) (v1 : Int32) : wpX_value (fun r => wpY_value (fun r' => r' = r ∧ i_Rel (k + 4) u v) v v1) u v1 := by
  refine sf_el (P := fun u v => wpX_value (fun r => wpY_value (fun r' => r' = r ∧ i_Rel (k + 4) u v) v v1) u v1) ?_ I
  intro nv nt no c xs xf xr xp xl xn xq xy xd xe xw xk xj xh xz yp K A L aI aS M oL oC oV kS kM kC kV cO cA cT cE oP bK bB bL sT rE rO fL wK wV wS wL F
  have hnv := F.2.1
  unfold wpX_value
  refine sf_x_isVar (by omega) (fun j hj e => ?_) (fun z => ?_)
  · subst e
    have hv : vp_in (nI j) 8 := vp_in_nI (by omega) (by omega)
    exact br_f (by decide) (And.intro hv (br_f (nI_pos (by omega)) (br_t (nI_lt hj (by omega)) (And.intro hv ⟨rfl, sf_in F⟩))))
  · refine br_t rfl ?_
    rcases z with z | ⟨z, y⟩
    · exact br_t z ⟨rfl, sf_in F⟩
    · exact br_f z (br_f (Int32.not_lt.mpr y) ⟨rfl, sf_in F⟩)
theorem i_vc_outCount {k : Nat} {u : SX} {v : SY} (I : i_Rel k u v) (hk : k + 4 ≤ 2051) (v1 : Int32) : wpX_outCount (fun r => wpY_outCount (fun r' => r' = r ∧ i_Rel (k + 4) u v) v v1) u v1 := by
  refine sf_el (P := fun u v => wpX_outCount (fun r => wpY_outCount (fun r' => r' = r ∧ i_Rel (k + 4) u v) v v1) u v1) ?_ I
  intro nv nt no c xs xf xr xp xl xn xq xy xd xe xw xk xj xh xz yp K A L aI aS M oL oC oV kS kM kC kV cO cA cT cE oP bK bB bL sT rE rO fL wK wV wS wL F
  unfold wpX_outCount
  refine sf_x_isLabel (fun j hj e => ?_) (fun z => ?_)
  · subst e
    have hv : vp_in (nI j) 4 := vp_in_nI (by omega) (by omega)
    exact br_f (by decide) (And.intro hv (br_f (nI_pos (by omega)) (br_t (nI_le (b := 3) (by omega) (by omega)) (And.intro hv ⟨rfl, sf_in F⟩))))
  · refine br_t rfl ?_
    rcases z with z | ⟨z, y⟩
    · exact br_t z ⟨rfl, sf_in F⟩
    · exact br_f z (br_f (Int32.not_le.mpr y) ⟨rfl, sf_in F⟩)
theorem i_vc_outValue {k : Nat} {u : SX} {v : SY} (I : i_Rel k u v) (hk : k + 4 ≤ 2051) (v1 : Int32) (v2 : Int32) : wpX_outValue (fun r => wpY_outValue (fun r' => r' = r ∧ i_Rel (k + 4) u v) v v1 v2) u v1 v2 := by
  refine sf_el (P := fun u v => wpX_outValue (fun r => wpY_outValue (fun r' => r' = r ∧ i_Rel (k + 4) u v) v v1 v2) u v1 v2) ?_ I
  intro nv nt no c xs xf xr xp xl xn xq xy xd xe xw xk xj xh xz yp K A L aI aS M oL oC oV kS kM kC kV cO cA cT cE oP bK bB bL sT rE rO fL wK wV wS wL F
  have hno := F.2.2.2.1
  unfold wpX_outValue
  refine sf_x_isLabel (fun j hj e => ?_) (fun z => ?_)
  · subst e
    have hv : vp_in (nI j) 4 := vp_in_nI (by omega) (by omega)
    have n0 : ¬ nI j < 0 := nI_pos (by omega)
    have n3 : ¬ (3 : Int32) < nI j := nI_nlt (b := j) (a := 3) (by omega) (by omega)
    refine br_f (by decide) ?_
    by_cases a : v2 < 0
    · exact br_t a (br_f n0 (br_f n3 (br_t a ⟨rfl, sf_in F⟩)))
    · by_cases b : nI no ≤ v2
      · exact br_f a (br_t b (br_f n0 (br_f n3 (br_f a (br_t b ⟨rfl, sf_in F⟩)))))
      · have hi := sf_ovin hno hv a b
        refine br_f a (br_f b (And.intro hv ?_))
        by_cases d : v2 < oC (nI j).toNatClampNeg
        · exact br_t d (And.intro hi (br_f n0 (br_f n3 (br_f a (br_f b (And.intro hv (br_t d (And.intro hi ⟨rfl, sf_in F⟩))))))))
        · exact br_f d (br_f n0 (br_f n3 (br_f a (br_f b (And.intro hv (br_f d ⟨rfl, sf_in F⟩))))))
  · refine br_t rfl ?_
    rcases z with z | ⟨z, y⟩
    · exact br_t z ⟨rfl, sf_in F⟩
    · exact br_f z (br_t y ⟨rfl, sf_in F⟩)
end
section
/-! put, relabel, setInput, start, keep, the two comparisons -/
def sf_al (nv : Nat) (k a : Int32) : Prop := ((k = 2 ∨ k = 6) → vp_in a nv) ∧ (k = 3 → vp_in a 7) ∧ (k = 7 → vp_in a 4)
abbrev sf_ua (k : Int32) : Prop := k = 1 ∨ k = 2 ∨ k = 3 ∨ k = 6 ∨ k = 7
theorem sf_vin {a : Int32} {n : Nat} (hn : n < 2 ^ 31) (h0 : ¬ a < 0) (h1 : a < nI n) : vp_in a n := by
  obtain ⟨j, hj, rfl⟩ := nI_of h0
  exact vp_in_nI ((nI_ltI hj hn).mp h1) hn
theorem sf_vin' {a : Int32} {n : Nat} (hn : n < 2 ^ 31) (h : vp_in a n) : ¬ a < 0 ∧ a < nI n := by
  obtain ⟨j, hj, rfl⟩ := vp_in_of h hn
  exact ⟨nI_pos (by omega), nI_lt hj hn⟩
theorem sf_vle {a : Int32} {n : Nat} (hn : n + 1 < 2 ^ 31) (h0 : ¬ a < 0) (h1 : a ≤ nI n) : vp_in a (n + 1) := by
  obtain ⟨j, hj, rfl⟩ := nI_of h0
  have := (nI_leI hj (by omega)).mp h1
  exact vp_in_nI (by omega) (by omega)
theorem sf_vle' {a : Int32} {n : Nat} (hn : n + 1 < 2 ^ 31) (h : vp_in a (n + 1)) : ¬ a < 0 ∧ a ≤ nI n := by
  obtain ⟨j, hj, rfl⟩ := vp_in_of h hn
  exact ⟨nI_pos (by omega), nI_le (by omega) (by omega)⟩
section
variable {xv xt xo xc xs xf xr xp xl xn xq xy xd xe xw xk xj xh xz : Int32} {K A L aI aS M oL oC oV kS kM kC kV cO cA cT cE oP bK bB bL sT rE rO fL : Nat → Int32}
variable {nv c j : Nat}
theorem sf_x_aa40 {post : Int32 → Prop} {a : Int32} (hn : nv ≤ 8) (h1 : vp_in a nv → post 1) (h0 : ¬ vp_in a nv → post 0) : wX_argAllowed_40 post a (nI nv) xt xo xc xs xf xr xp xl xn xq xy xd xe xw xk xj xh xz K A L aI aS M oL oC oV kS kM kC kV cO cA cT cE oP bK bB bL sT rE rO fL := by
  unfold wX_argAllowed_40
  refine sf_x_isVar (by omega) (fun i hi e => And.intro rfl (h1 ?_)) (fun z => And.intro rfl (h0 fun y => ?_))
  · subst e; exact vp_in_nI hi (by omega)
  · have := sf_vin' (by omega) y
    rcases z with z | ⟨_, z⟩
    · exact this.1 z
    · exact Int32.not_lt.mpr z this.2
theorem sf_x_aa {post : Int32 → Prop} {k a : Int32} (hn : nv ≤ 8) (h1 : sf_al nv k a → post 1) (h0 : ¬ sf_al nv k a → post 0) : wpX_argAllowed post ((nI nv), xt, xo, xc, xs, xf, xr, xp, xl, xn, xq, xy, xd, xe, xw, xk, xj, xh, xz, K, A, L, aI, aS, M, oL, oC, oV, kS, kM, kC, kV, cO, cA, cT, cE, oP, bK, bB, bL, sT, rE, rO, fL) k a := by
  have triv : (k ≠ 2 ∧ k ≠ 6 ∧ k ≠ 3 ∧ k ≠ 7) → post 1 := fun z => h1 ⟨fun y => y.elim (fun q => absurd q z.1) (fun q => absurd q z.2.1), fun q => absurd q z.2.2.1, fun q => absurd q z.2.2.2⟩
  refine br_c (fun z => triv ?_) fun n2 => br_c (fun z => triv ?_) fun n7 => ?_
  · refine ⟨?_, ?_, ?_, ?_⟩ <;> (intro y; rw [y] at z; revert z; decide)
  · refine ⟨?_, ?_, ?_, ?_⟩ <;> (intro y; rw [y] at z; revert z; decide)
  · refine br_c (fun z => sf_x_aa40 hn (fun y => h1 ?_) (fun y => h0 fun q => y (q.1 (Or.inl z)))) fun m2 => ?_
    · subst z; exact ⟨fun _ => y, fun q => absurd q (by decide), fun q => absurd q (by decide)⟩
    · refine br_c (fun z => ?_) fun m3 => ?_
      · subst z
        refine br_c (fun y => h0 fun q => (sf_vle' (n := 6) (by omega) (q.2.1 rfl)).1 y) fun y => br_c (fun w => h0 fun q => Int32.not_le.mpr w (sf_vle' (n := 6) (by omega) (q.2.1 rfl)).2) fun w => h1 ⟨fun q => absurd q (by decide), fun _ => sf_vle (n := 6) (by omega) y (Int32.not_lt.mp w), fun q => absurd q (by decide)⟩
      · refine br_c (fun z => triv ?_) fun m4 => br_c (fun z => triv ?_) fun m5 => ?_
        · subst z; decide
        · subst z; decide
        · refine br_c (fun z => sf_x_aa40 hn (fun y => h1 ?_) (fun y => h0 fun q => y (q.1 (Or.inr z)))) fun m6 => br_c (fun z => ?_) fun _ => trivial
          · subst z; exact ⟨fun _ => y, fun q => absurd q (by decide), fun q => absurd q (by decide)⟩
          · subst z
            refine sf_x_isLabel (fun i hi e => And.intro rfl (h1 ⟨fun q => absurd q (by decide), fun q => absurd q (by decide), fun _ => ?_⟩)) (fun z => And.intro rfl (h0 fun q => ?_))
            · subst e; exact vp_in_nI hi (by omega)
            · have := sf_vle' (n := 3) (by omega) (q.2.2 rfl)
              rcases z with z | ⟨_, z⟩
              · exact this.1 z
              · exact Int32.not_le.mpr z this.2
theorem sf_x_ha {post : Int32 → Prop} {k : Int32} (h1 : sf_ua k → post 1) (h0 : ¬ sf_ua k → post 0) : wpX_hasArg post (xv, xt, xo, xc, xs, xf, xr, xp, xl, xn, xq, xy, xd, xe, xw, xk, xj, xh, xz, K, A, L, aI, aS, M, oL, oC, oV, kS, kM, kC, kV, cO, cA, cT, cE, oP, bK, bB, bL, sT, rE, rO, fL) k :=
  br_c (fun z => h1 (Or.inl z)) fun n1 => br_c (fun z => h1 (Or.inr (Or.inl z))) fun n2 => br_c (fun z => h1 (Or.inr (Or.inr (Or.inl z)))) fun n3 => br_c (fun z => h1 (Or.inr (Or.inr (Or.inr (Or.inl z))))) fun n6 => br_c (fun z => h1 (Or.inr (Or.inr (Or.inr (Or.inr z))))) fun n7 =>
    h0 (by rintro (z | z | z | z | z); exact n1 z; exact n2 z; exact n3 z; exact n6 z; exact n7 z)
theorem sf_x_p85 {post : Int32 → SX → Prop} {z : Int32} (hj : j < 96) (hc : c ≤ 96) (h : post 0 (xv, xt, xo, (nI (if j = c then c + 1 else c)), 0, (-1), 0, xp, xl, xn, xq, xy, xd, xe, xw, xk, xj, xh, xz, K, (upd A j z), L, aI, aS, M, oL, oC, oV, kS, kM, kC, kV, cO, cA, cT, cE, oP, bK, bB, bL, sT, rE, rO, fL)) : wX_put_85 post (nI j) z (nI j) xv xt xo (nI c) xs xf xr xp xl xn xq xy xd xe xw xk xj xh xz K A L aI aS M oL oC oV kS kM kC kV cO cA cT cE oP bK bB bL sT rE rO fL := by
  refine And.intro (vp_in_nI hj (by omega)) (nm_r (e' := upd A j z) (by rw [nI_clamp (by omega)]) ?_)
  by_cases e : j = c
  · rw [if_pos e] at h
    exact br_t (by rw [e]) (nm_r (nI_1 c) h)
  · rw [if_neg e] at h
    exact br_f (fun y => e (sf_inj y (by omega) (by omega))) h
end
section
variable {yv yt yo yc ys yf yp yr : Int32} {K A L aI aS M oC oV kS kM kC kV wK wV wS wL : Nat → Int32}
variable {nv c j : Nat}
theorem sf_y_p164 {post : Int32 → SY → Prop} {z : Int32} (hj : j < 96) (hc : c ≤ 96) (h : post 0 (yv, yt, yo, (nI (if j = c then c + 1 else c)), 0, (-1), yp, 0, K, (upd A j z), L, aI, aS, M, oC, oV, kS, kM, kC, kV, wK, wV, wS, wL)) : wY_put_164 post (nI j) z (nI j) yv yt yo (nI c) ys yf yp yr K A L aI aS M oC oV kS kM kC kV wK wV wS wL := by
  refine And.intro (vp_in_nI hj (by omega)) (nm_r (e' := upd A j z) (by rw [nI_clamp (by omega)]) ?_)
  by_cases e : j = c
  · rw [if_pos e] at h
    exact br_t (by rw [e]) (nm_r (nI_1 c) h)
  · rw [if_neg e] at h
    exact br_f (fun y => e (sf_inj y (by omega) (by omega))) h
theorem sf_y_p108 {post : Int32 → SY → Prop} {k a : Int32} (hj : j < 96) (hc : c ≤ 96) (h : post 0 (yv, yt, yo, (nI (if j = c then c + 1 else c)), 0, (-1), yp, 0, (upd K j k), (upd A j (if sf_ua k then a else 0)), L, aI, aS, M, oC, oV, kS, kM, kC, kV, wK, wV, wS, wL)) : wY_put_108 post (nI j) k a yv yt yo (nI c) ys yf yp yr K A L aI aS M oC oV kS kM kC kV wK wV wS wL := by
  have cl : (nI j).toNatClampNeg = j := nI_clamp (by omega)
  have U : sf_ua k → wY_put_135 post (nI j) k a yv yt yo (nI c) ys yf yp yr K A L aI aS M oC oV kS kM kC kV wK wV wS wL := by
    intro u
    rw [if_pos u] at h
    exact And.intro (vp_in_nI hj (by omega)) (nm_r (e' := upd K j k) (by rw [cl]) (br_f (by decide) (sf_y_p164 hj hc h)))
  refine br_c (fun z => U (Or.inl z)) fun n1 => br_c (fun z => U (Or.inr (Or.inl z))) fun n2 => br_c (fun z => U (Or.inr (Or.inr (Or.inl z)))) fun n3 => br_c (fun z => U (Or.inr (Or.inr (Or.inr (Or.inl z))))) fun n6 => br_c (fun z => U (Or.inr (Or.inr (Or.inr (Or.inr z))))) fun n7 => ?_
  have nu : ¬ sf_ua k := by
    rintro (z | z | z | z | z)
    · exact n1 z
    · exact n2 z
    · exact n3 z
    · exact n6 z
    · exact n7 z
  rw [if_neg nu] at h
  exact And.intro (vp_in_nI hj (by omega)) (nm_r (e' := upd K j k) (by rw [cl]) (br_t rfl (sf_y_p164 hj hc h)))
theorem sf_y_p91 {post : Int32 → SY → Prop} {k a : Int32} (h1 : (k = 7 → vp_in a 4) → wY_put_108 post (nI j) k a yv yt yo yc ys yf yp yr K A L aI aS M oC oV kS kM kC kV wK wV wS wL) (h0 : (k = 7 ∧ ¬ vp_in a 4) → post (-1) (yv, yt, yo, yc, ys, yf, yp, yr, K, A, L, aI, aS, M, oC, oV, kS, kM, kC, kV, wK, wV, wS, wL)) : wY_put_91 post (nI j) k a yv yt yo yc ys yf yp yr K A L aI aS M oC oV kS kM kC kV wK wV wS wL :=
  br_c (fun z => br_c (fun y => h0 ⟨z, fun q => (sf_vle' (n := 3) (by omega) q).1 y⟩) fun y => br_c (fun w => h1 fun _ => sf_vle (n := 3) (by omega) y w) fun w => h0 ⟨z, fun q => w (sf_vle' (n := 3) (by omega) q).2⟩) fun z => h1 fun q => absurd q z
theorem sf_y_p74 {post : Int32 → SY → Prop} {k a : Int32} (h1 : (k = 3 → vp_in a 7) → wY_put_91 post (nI j) k a yv yt yo yc ys yf yp yr K A L aI aS M oC oV kS kM kC kV wK wV wS wL) (h0 : (k = 3 ∧ ¬ vp_in a 7) → post (-1) (yv, yt, yo, yc, ys, yf, yp, yr, K, A, L, aI, aS, M, oC, oV, kS, kM, kC, kV, wK, wV, wS, wL)) : wY_put_74 post (nI j) k a yv yt yo yc ys yf yp yr K A L aI aS M oC oV kS kM kC kV wK wV wS wL :=
  br_c (fun z => br_c (fun y => h0 ⟨z, fun q => (sf_vle' (n := 6) (by omega) q).1 y⟩) fun y => br_c (fun w => h1 fun _ => sf_vle (n := 6) (by omega) y w) fun w => h0 ⟨z, fun q => w (sf_vle' (n := 6) (by omega) q).2⟩) fun z => h1 fun q => absurd q z
theorem sf_y_p60 {post : Int32 → SY → Prop} {k a : Int32} (hn : nv ≤ 8) (h1 : vp_in a nv → wY_put_74 post (nI j) k a (nI nv) yt yo yc ys yf yp yr K A L aI aS M oC oV kS kM kC kV wK wV wS wL) (h0 : ¬ vp_in a nv → post (-1) ((nI nv), yt, yo, yc, ys, yf, yp, yr, K, A, L, aI, aS, M, oC, oV, kS, kM, kC, kV, wK, wV, wS, wL)) : wY_put_60 post (nI j) k a (nI nv) yt yo yc ys yf yp yr K A L aI aS M oC oV kS kM kC kV wK wV wS wL :=
  br_c (fun y => h0 fun q => (sf_vin' (by omega) q).1 y) fun y => br_c (fun w => h1 (sf_vin (by omega) y w)) fun w => h0 fun q => w (sf_vin' (by omega) q).2
theorem sf_y_ptail {post : Int32 → SY → Prop} {k a : Int32} (hn : nv ≤ 8) (hj : j < 96) (hc : c ≤ 96) (h1 : sf_al nv k a → post 0 ((nI nv), yt, yo, (nI (if j = c then c + 1 else c)), 0, (-1), yp, 0, (upd K j k), (upd A j (if sf_ua k then a else 0)), L, aI, aS, M, oC, oV, kS, kM, kC, kV, wK, wV, wS, wL)) (h0 : ¬ sf_al nv k a → post (-1) ((nI nv), yt, yo, (nI c), ys, yf, yp, yr, K, A, L, aI, aS, M, oC, oV, kS, kM, kC, kV, wK, wV, wS, wL)) :
    (k = 2 → wY_put_60 post (nI j) k a (nI nv) yt yo (nI c) ys yf yp yr K A L aI aS M oC oV kS kM kC kV wK wV wS wL) ∧ (¬ k = 2 → (k = 6 → wY_put_60 post (nI j) k a (nI nv) yt yo (nI c) ys yf yp yr K A L aI aS M oC oV kS kM kC kV wK wV wS wL) ∧ (¬ k = 6 → wY_put_74 post (nI j) k a (nI nv) yt yo (nI c) ys yf yp yr K A L aI aS M oC oV kS kM kC kV wK wV wS wL)) := by
  have T : ((k = 2 ∨ k = 6) → vp_in a nv) → wY_put_74 post (nI j) k a (nI nv) yt yo (nI c) ys yf yp yr K A L aI aS M oC oV kS kM kC kV wK wV wS wL := fun z =>
    sf_y_p74 (fun y => sf_y_p91 (fun w => sf_y_p108 hj hc (h1 ⟨z, y, w⟩)) (fun w => h0 fun q => w.2 (q.2.2 w.1))) (fun y => h0 fun q => y.2 (q.2.1 y.1))
  exact br_c (fun z => sf_y_p60 hn (fun y => T fun _ => y) (fun y => h0 fun q => y (q.1 (Or.inl z)))) fun n2 => br_c (fun z => sf_y_p60 hn (fun y => T fun _ => y) (fun y => h0 fun q => y (q.1 (Or.inr z)))) fun n6 => T fun y => y.elim (fun w => absurd w n2) (fun w => absurd w n6)
end
theorem i_vc_put {k : Nat} {u : SX} {v : SY} (I : i_Rel k u v) (hk : k + 4 ≤ 2051) (v1 : Int32) (v2 : Int32) (v3 : Int32) : wpX_put (fun r u' => wpY_put (fun r' v' => r' = r ∧ i_Rel (k + 4) u' v') v v1 v2 v3) u v1 v2 v3 := by
  refine sf_el (P := fun u v => wpX_put (fun r u' => wpY_put (fun r' v' => r' = r ∧ i_Rel (k + 4) u' v') v v1 v2 v3) u v1 v2 v3) ?_ I
  intro nv nt no c xs xf xr xp xl xn xq xy xd xe xw xk xj xh xz yp K A L aI aS M oL oC oV kS kM kC kV cO cA cT cE oP bK bB bL sT rE rO fL wK wV wS wL F
  obtain ⟨f1, f2, f3, f4, f5, f6, f7, f8, f9⟩ := F
  have F : sf_FA nv nt no c K A L xs xp xl yp xn cO cA cT cE := ⟨f1, f2, f3, f4, f5, f6, f7, f8, f9⟩
  by_cases a : v1 < 0
  · exact br_t a (br_t a ⟨rfl, sf_in F⟩)
  · obtain ⟨j, hj, rfl⟩ := nI_of a
    rcases Nat.lt_or_ge c j with z | z
    · have n := nI_ge z hj
      exact br_f a (br_f n (br_f a (br_f n ⟨rfl, sf_in F⟩)))
    · have y := nI_le z (by omega)
      refine br_f a (br_t y ?_)
      by_cases b : v2 < 0
      · exact br_t b (br_f a (br_t y (br_t b ⟨rfl, sf_in F⟩)))
      · refine br_f b ?_
        by_cases d : v2 ≤ 12
        · refine br_t d ?_
          by_cases e : v2 = 0
          · refine br_t e (br_f a (br_t y (br_f b (br_t d (br_t e ⟨rfl, sf_in ⟨f1, f2, f3, f4, by omega, fun i hi => f6 i (by omega), f7, Or.inl rfl, fun q => absurd q (by decide)⟩⟩)))))
          · refine br_f e ?_
            rcases Nat.lt_or_ge j nt with w | w
            · have lt := nI_lt w (by omega)
              have hv : vp_in (nI j) 96 := vp_in_nI (by omega) (by omega)
              have cl : (nI j).toNatClampNeg = j := nI_clamp (by omega)
              refine br_t lt (sf_x_aa f2 (fun al => br_f (by decide) (And.intro hv (nm_r (e' := upd K j v2) (by rw [cl]) ?_))) (fun al => br_t rfl ?_))
              · have kd : v2 = 1 ∨ v2 = 2 ∨ v2 = 3 ∨ v2 = 4 ∨ v2 = 5 ∨ v2 = 6 ∨ v2 = 7 ∨ v2 = 8 ∨ v2 = 9 ∨ v2 = 10 ∨ v2 = 11 ∨ v2 = 12 := by
                  obtain ⟨i, hi, rfl⟩ := nI_of b
                  have i12 : i ≤ 12 := (nI_leI hi (by omega)).mp d
                  have i0 : i ≠ 0 := fun q => e (by rw [q]; rfl)
                  exact (by decide : ∀ i, i ≤ 12 → i ≠ 0 → (nI i = 1 ∨ nI i = 2 ∨ nI i = 3 ∨ nI i = 4 ∨ nI i = 5 ∨ nI i = 6 ∨ nI i = 7 ∨ nI i = 8 ∨ nI i = 9 ∨ nI i = 10 ∨ nI i = 11 ∨ nI i = 12)) i i12 i0
                have FN : sf_FA nv nt no (if j = c then c + 1 else c) (upd K j v2) (upd A j (if sf_ua v2 then v3 else 0)) L 0 xp xl yp xn cO cA cT cE := by
                  refine ⟨f1, f2, f3, f4, by split <;> omega, fun i hi => ?_, f7, Or.inl rfl, fun q => absurd q (by decide)⟩
                  by_cases q : i = j
                  · subst q
                    rw [pk_us, pk_us]
                    refine ⟨kd, fun r => ?_, fun r => ?_, fun r => ?_, fun r => ?_⟩
                    · rw [if_pos (Or.inr (Or.inl r))]; exact al.1 (Or.inl r)
                    · rw [if_pos (Or.inr (Or.inr (Or.inl r)))]; exact al.2.1 r
                    · rw [if_pos (Or.inr (Or.inr (Or.inr (Or.inl r))))]; exact al.1 (Or.inr r)
                    · rw [if_pos (Or.inr (Or.inr (Or.inr (Or.inr r))))]; exact al.2.2 r
                  · rw [pk_un q, pk_un q]
                    refine f6 i ?_
                    split at hi <;> omega
                have G : ∀ z, z = (if sf_ua v2 then v3 else 0) → wX_put_85 (fun r u' => wpY_put (fun r' v' => r' = r ∧ i_Rel (k + 4) u' v') ((nI nv), (nI nt), (nI no), (nI c), xs, xf, yp, xr, K, A, L, aI, aS, M, oC, oV, kS, kM, kC, kV, wK, wV, wS, wL) (nI j) v2 v3) (nI j) z (nI j) (nI nv) (nI nt) (nI no) (nI c) xs xf xr xp xl xn xq xy xd xe xw xk xj xh xz (upd K j v2) A L aI aS M oL oC oV kS kM kC kV cO cA cT cE oP bK bB bL sT rE rO fL := by
                  intro z hz
                  refine sf_x_p85 (by omega) (by omega) ?_
                  refine br_f a (br_t y (br_f b (br_t d (br_f e (br_t lt (sf_y_ptail f2 (by omega) (by omega) (fun _ => ⟨rfl, ?_⟩) (fun q => absurd al q)))))))
                  rw [hz]
                  exact sf_in FN
                refine sf_x_ha (fun u => br_f (by decide) (G v3 (by rw [if_pos u]))) (fun u => br_t rfl (G 0 (by rw [if_neg u])))
              · exact br_f a (br_t y (br_f b (br_t d (br_f e (br_t lt (sf_y_ptail f2 (by omega) (by omega) (fun q => absurd q al) (fun _ => ⟨rfl, sf_in F⟩)))))))
            · have nlt := nI_nlt w hj
              exact br_f nlt (br_f a (br_t y (br_f b (br_t d (br_f e (br_f nlt ⟨rfl, sf_in F⟩))))))
        · exact br_f d (br_f a (br_t y (br_f b (br_f d ⟨rfl, sf_in F⟩))))
theorem i_vc_relabel {k : Nat} {u : SX} {v : SY} (I : i_Rel k u v) (hk : k + 4 ≤ 2051) (v1 : Int32) (v2 : Int32) : wpX_relabel (fun r u' => wpY_relabel (fun r' v' => r' = r ∧ i_Rel (k + 4) u' v') v v1 v2) u v1 v2 := by
  refine sf_el (P := fun u v => wpX_relabel (fun r u' => wpY_relabel (fun r' v' => r' = r ∧ i_Rel (k + 4) u' v') v v1 v2) u v1 v2) ?_ I
  intro nv nt no c xs xf xr xp xl xn xq xy xd xe xw xk xj xh xz yp K A L aI aS M oL oC oV kS kM kC kV cO cA cT cE oP bK bB bL sT rE rO fL wK wV wS wL F
  obtain ⟨f1, f2, f3, f4, f5, f6, f7, f8, f9⟩ := F
  have F : sf_FA nv nt no c K A L xs xp xl yp xn cO cA cT cE := ⟨f1, f2, f3, f4, f5, f6, f7, f8, f9⟩
  unfold wpX_relabel
  refine sf_x_isVar (by omega) (fun j hj e => br_f (by decide) ?_) (fun z => br_t rfl ?_)
  · subst e
    have n0 : ¬ nI j < 0 := nI_pos (by omega)
    have nv' : ¬ nI nv ≤ nI j := nI_ge hj (by omega)
    refine sf_x_isLabel (fun i hi e => br_f (by decide) ?_) (fun z => br_t rfl ?_)
    · subst e
      have hv : vp_in (nI j) 8 := vp_in_nI (by omega) (by omega)
      have cl : (nI j).toNatClampNeg = j := nI_clamp (by omega)
      have LB' : sf_LB nv (upd L j (nI i)) := by
        intro x hx b hb
        by_cases q : x = j
        · subst q; rw [pk_us]; exact sf_lab4 i hi b hb
        · rw [pk_un q]; exact f7 x hx b hb
      refine And.intro hv (nm_r (e' := upd L j (nI i)) (by rw [cl]) ?_)
      by_cases s0 : xs = 0
      · refine br_t s0 (br_f n0 (br_f nv' (br_f (nI_pos (by omega)) (br_t (nI_le (b := 3) (by omega) (by omega)) (And.intro hv (nm_r (e' := upd L j (nI i)) (by rw [cl]) (br_t s0 ⟨rfl, sf_in ⟨f1, f2, f3, f4, f5, f6, LB', f8, f9⟩⟩)))))))
      · have C : sf_CM nv c K A xn cO cA cT cE := f8.resolve_left s0
        refine br_f s0 (br_f n0 (br_f nv' (br_f (nI_pos (by omega)) (br_t (nI_le (b := 3) (by omega) (by omega)) (And.intro hv (nm_r (e' := upd L j (nI i)) (by rw [cl]) (br_f s0 ⟨rfl, sf_in ⟨f1, f2, f3, f4, f5, f6, LB', Or.inr C, fun q => absurd q (by decide)⟩⟩)))))))
    · rcases z with z | ⟨z, y⟩
      · exact br_f n0 (br_f nv' (br_t z ⟨rfl, sf_in F⟩))
      · exact br_f n0 (br_f nv' (br_f z (br_f (Int32.not_le.mpr y) ⟨rfl, sf_in F⟩)))
  · rcases z with z | ⟨z, y⟩
    · exact br_t z ⟨rfl, sf_in F⟩
    · exact br_f z (br_t y ⟨rfl, sf_in F⟩)
theorem i_vc_setInput {k : Nat} {u : SX} {v : SY} (I : i_Rel k u v) (hk : k + 4 ≤ 2051) (v1 : Int32) (v2 : Int32) : wpX_setInput (fun r u' => wpY_setInput (fun r' v' => r' = r ∧ i_Rel (k + 4) u' v') v v1 v2) u v1 v2 := by
  refine sf_el (P := fun u v => wpX_setInput (fun r u' => wpY_setInput (fun r' v' => r' = r ∧ i_Rel (k + 4) u' v') v v1 v2) u v1 v2) ?_ I
  intro nv nt no c xs xf xr xp xl xn xq xy xd xe xw xk xj xh xz yp K A L aI aS M oL oC oV kS kM kC kV cO cA cT cE oP bK bB bL sT rE rO fL wK wV wS wL F
  have hnv := F.2.1
  unfold wpX_setInput
  refine sf_x_isVar (by omega) (fun j hj e => ?_) (fun z => br_t rfl ?_)
  · subst e
    have hv : vp_in (nI j) 8 := vp_in_nI (by omega) (by omega)
    exact br_f (by decide) (And.intro hv (nm_e (br_f (nI_pos (by omega)) (br_t (nI_lt hj (by omega)) (And.intro hv (nm_e ⟨rfl, sf_in F⟩))))))
  · rcases z with z | ⟨z, y⟩
    · exact br_t z ⟨rfl, sf_in F⟩
    · exact br_f z (br_f (Int32.not_lt.mpr y) ⟨rfl, sf_in F⟩)
theorem i_vc_start {k : Nat} {u : SX} {v : SY} (I : i_Rel k u v) (hk : k + 4 ≤ 2051) : wpX_start (fun r u' => wpY_start (fun r' v' => r' = r ∧ i_Rel (k + 4) u' v') v) u := by
  refine sf_el (P := fun u v => wpX_start (fun r u' => wpY_start (fun r' v' => r' = r ∧ i_Rel (k + 4) u' v') v) u) ?_ I
  intro nv nt no c xs xf xr xp xl xn xq xy xd xe xw xk xj xh xz yp K A L aI aS M oL oC oV kS kM kC kV cO cA cT cE oP bK bB bL sT rE rO fL wK wV wS wL F
  obtain ⟨f1, f2, f3, f4, f5, f6, f7, f8, f9⟩ := F
  have F : sf_FA nv nt no c K A L xs xp xl yp xn cO cA cT cE := ⟨f1, f2, f3, f4, f5, f6, f7, f8, f9⟩
  have GX : ∀ (post : Int32 → SX → Prop), post 0 ((nI nv), (nI nt), (nI no), (nI c), 4, xf, xr, 0, 0, xn, xq, xy, xd, xe, xw, xk, xj, xh, xz, K, A, L, aI, (sf_cp aI aS nv), (sf_cp aI M nv), oL, (sf_cp (fun _ => 0) oC 4), oV, kS, kM, kC, kV, cO, cA, cT, cE, oP, bK, bB, bL, sT, rE, rO, fL) → ∃ n28 : Nat, wX_start_28 post (nI nv) (nI nt) (nI no) (nI c) xs xf xr xp xl xn xq xy xd xe xw xk xj xh xz n28 0 K A L aI aS M oL oC oV kS kM kC kV cO cA cT cE oP bK bB bL sT rE rO fL := by
    intro post h
    have S := sf_x_st28 (xs := xs) (xp := xp) (xl := xl) f2 h nv 0 (nv + 1) (by omega) (by omega)
    rw [sf_cp_0, sf_cp_0] at S
    exact ⟨nv + 1, S⟩
  have GY : ∀ (post : Int32 → SY → Prop), post 0 ((nI nv), (nI nt), (nI no), (nI c), 4, xf, 0, xr, K, A, L, aI, (sf_cp aI aS nv), (sf_cp aI M nv), (sf_cp (fun _ => 0) oC 4), oV, kS, kM, kC, kV, wK, wV, wS, wL) → ∃ n28 : Nat, wY_start_28 post (nI nv) (nI nt) (nI no) (nI c) xs xf yp xr n28 0 K A L aI aS M oC oV kS kM kC kV wK wV wS wL := by
    intro post h
    have S := sf_y_st28 (ys := xs) (yp := yp) f2 h nv 0 (nv + 1) (by omega) (by omega)
    rw [sf_cp_0, sf_cp_0] at S
    exact ⟨nv + 1, S⟩
  have FN : xs ≠ 0 → sf_FA nv nt no c K A L 4 0 0 0 xn cO cA cT cE := fun s0 =>
    have C : sf_CM nv c K A xn cO cA cT cE := f8.resolve_left s0
    ⟨f1, f2, f3, f4, f5, f6, f7, Or.inr C, fun _ => ⟨0, by omega, sf_CM_0 C, rfl, rfl, rfl⟩⟩
  by_cases a : xs = 2
  · exact br_t a (GX _ (br_t a (GY _ ⟨rfl, sf_in (FN (by rw [a]; decide))⟩)))
  · by_cases b : xs = 4
    · exact br_f a (br_t b (GX _ (br_f a (br_t b (GY _ ⟨rfl, sf_in (FN (by rw [b]; decide))⟩)))))
    · by_cases d : xs = 5
      · exact br_f a (br_f b (br_t d (GX _ (br_f a (br_f b (br_t d (GY _ ⟨rfl, sf_in (FN (by rw [d]; decide))⟩)))))))
      · exact br_f a (br_f b (br_f d (br_f a (br_f b (br_f d ⟨rfl, sf_in F⟩)))))
theorem i_vc_keep {k : Nat} {u : SX} {v : SY} (I : i_Rel k u v) (hk : k + 4 ≤ 2051) : wpX_keep (fun r u' => wpY_keep (fun r' v' => r' = r ∧ i_Rel (k + 4) u' v') v) u := by
  refine sf_el (P := fun u v => wpX_keep (fun r u' => wpY_keep (fun r' v' => r' = r ∧ i_Rel (k + 4) u' v') v) u) ?_ I
  intro nv nt no c xs xf xr xp xl xn xq xy xd xe xw xk xj xh xz yp K A L aI aS M oL oC oV kS kM kC kV cO cA cT cE oP bK bB bL sT rE rO fL wK wV wS wL F
  have f2 := F.2.1
  have GX : ∀ (post : Int32 → SX → Prop), post 0 ((nI nv), (nI nt), (nI no), (nI c), xs, xf, 1, xp, xl, xn, xq, xy, xd, xe, xw, xk, xj, xh, xz, K, A, L, aI, aS, M, oL, oC, oV, (sf_cp aS kS nv), (sf_cp M kM nv), (sf_cp oC kC 4), (sf_cp oV kV 64), cO, cA, cT, cE, oP, bK, bB, bL, sT, rE, rO, fL) → ∃ n12 : Nat, wX_keep_12 post (nI nv) (nI nt) (nI no) (nI c) xs xf xr xp xl xn xq xy xd xe xw xk xj xh xz n12 0 K A L aI aS M oL oC oV kS kM kC kV cO cA cT cE oP bK bB bL sT rE rO fL := by
    intro post h
    have S := sf_x_kp12 (xr := xr) f2 h nv 0 (nv + 1) (by omega) (by omega)
    rw [sf_cp_0, sf_cp_0] at S
    exact ⟨nv + 1, S⟩
  have GY : ∀ (post : Int32 → SY → Prop), post 0 ((nI nv), (nI nt), (nI no), (nI c), xs, xf, yp, 1, K, A, L, aI, aS, M, oC, oV, (sf_cp aS kS nv), (sf_cp M kM nv), (sf_cp oC kC 4), (sf_cp oV kV 64), wK, wV, wS, wL) → ∃ n17 : Nat, wY_keep_17 post (nI nv) (nI nt) (nI no) (nI c) xs xf yp 1 n17 0 K A L aI aS M oC oV kS kM kC kV wK wV wS wL := by
    intro post h
    have S := sf_y_kp17 f2 h nv 0 (nv + 1) (by omega) (by omega)
    rw [sf_cp_0, sf_cp_0] at S
    exact ⟨nv + 1, S⟩
  by_cases a : xs = 5
  · exact br_t a (GX _ (br_t a (GY _ ⟨rfl, sf_in F⟩)))
  · exact br_f a (br_f a ⟨rfl, sf_in F⟩)
theorem i_vc_startsAgree {k : Nat} {u : SX} {v : SY} (I : i_Rel k u v) (hk : k + 4 ≤ 2051) (v1 : Int32) : wpX_startsAgree (fun r => wpY_startsAgree (fun r' => r' = r ∧ i_Rel (k + 4) u v) v v1) u v1 := by
  refine sf_el (P := fun u v => wpX_startsAgree (fun r => wpY_startsAgree (fun r' => r' = r ∧ i_Rel (k + 4) u v) v v1) u v1) ?_ I
  intro nv nt no c xs xf xr xp xl xn xq xy xd xe xw xk xj xh xz yp K A L aI aS M oL oC oV kS kM kC kV cO cA cT cE oP bK bB bL sT rE rO fL wK wV wS wL F
  have f2 := F.2.1
  unfold wpX_startsAgree
  refine sf_x_isLabel (fun j hj e => br_f (by decide) ?_) (fun z => br_t rfl ?_)
  · have n0 : ¬ v1 < 0 := by rw [e]; exact nI_pos (by omega)
    have n3 : ¬ (3 : Int32) < v1 := by rw [e]; exact nI_nlt (b := j) (a := 3) (by omega) (by omega)
    by_cases a : xr = 0
    · exact br_t a (br_f n0 (br_f n3 (br_t a ⟨rfl, sf_in F⟩)))
    · obtain ⟨r, PX, PY⟩ := sf_sa (lv := v1) (yt := nI nt) (yo := nI no) (yc := nI c) (ys := xs) (yf := xf) (yp := yp) (yr := xr) (wK := wK) (wV := wV) (wS := wS) (wL := wL) (xt := nI nt) (xo := nI no) (xc := nI c) (xs := xs) (xf := xf) (xr := xr) (xp := xp) (xl := xl) (xn := xn) (xq := xq) (xy := xy) (xd := xd) (xe := xe) (xw := xw) (xk := xk) (xj := xj) (xh := xh) (xz := xz) (K := K) (A := A) (L := L) (aI := aI) (aS := aS) (M := M) (oL := oL) (oC := oC) (oV := oV) (kS := kS) (kM := kM) (kC := kC) (kV := kV) (cO := cO) (cA := cA) (cT := cT) (cE := cE) (oP := oP) (bK := bK) (bB := bB) (bL := bL) (sT := sT) (rE := rE) (rO := rO) (fL := fL) f2 nv 0 (by omega)
      exact br_f a ⟨nv + 1, PX _ (nv + 1) (by omega) (br_f n0 (br_f n3 (br_f a ⟨nv + 1, PY _ (nv + 1) (by omega) ⟨rfl, sf_in F⟩⟩)))⟩
  · rcases z with z | ⟨z, y⟩
    · exact br_t z ⟨rfl, sf_in F⟩
    · exact br_f z (br_t y ⟨rfl, sf_in F⟩)
theorem i_vc_endsAgree {k : Nat} {u : SX} {v : SY} (I : i_Rel k u v) (hk : k + 4 ≤ 2051) (v1 : Int32) : wpX_endsAgree (fun r => wpY_endsAgree (fun r' => r' = r ∧ i_Rel (k + 4) u v) v v1) u v1 := by
  refine sf_el (P := fun u v => wpX_endsAgree (fun r => wpY_endsAgree (fun r' => r' = r ∧ i_Rel (k + 4) u v) v v1) u v1) ?_ I
  intro nv nt no c xs xf xr xp xl xn xq xy xd xe xw xk xj xh xz yp K A L aI aS M oL oC oV kS kM kC kV cO cA cT cE oP bK bB bL sT rE rO fL wK wV wS wL F
  have f2 := F.2.1
  have f4 := F.2.2.2.1
  unfold wpX_endsAgree
  refine sf_x_isLabel (fun j hj e => br_f (by decide) ?_) (fun z => br_t rfl ?_)
  · have n0 : ¬ v1 < 0 := by rw [e]; exact nI_pos (by omega)
    have n3 : ¬ (3 : Int32) < v1 := by rw [e]; exact nI_nlt (b := j) (a := 3) (by omega) (by omega)
    by_cases a : xr = 0
    · exact br_t a (br_f n0 (br_f n3 (br_t a ⟨rfl, sf_in F⟩)))
    · by_cases b : xs = 5
      · obtain ⟨r, PX, PY⟩ := sf_ea (lv := v1) (yt := nI nt) (yc := nI c) (ys := xs) (yf := xf) (yp := yp) (yr := xr) (wK := wK) (wV := wV) (wS := wS) (wL := wL) (xt := nI nt) (xc := nI c) (xs := xs) (xf := xf) (xr := xr) (xp := xp) (xl := xl) (xn := xn) (xq := xq) (xy := xy) (xd := xd) (xe := xe) (xw := xw) (xk := xk) (xj := xj) (xh := xh) (xz := xz) (K := K) (A := A) (L := L) (aI := aI) (aS := aS) (M := M) (oL := oL) (oC := oC) (oV := oV) (kS := kS) (kM := kM) (kC := kC) (kV := kV) (cO := cO) (cA := cA) (cT := cT) (cE := cE) (oP := oP) (bK := bK) (bB := bB) (bL := bL) (sT := sT) (rE := rE) (rO := rO) (fL := fL) f2 f4 nv 0 (by omega)
        exact br_f a (br_t b ⟨nv + 1, PX _ (nv + 1) (by omega) (br_f n0 (br_f n3 (br_f a (br_t b ⟨nv + 1, PY _ (nv + 1) (by omega) ⟨rfl, sf_in F⟩⟩))))⟩)
      · exact br_f a (br_f b (br_f n0 (br_f n3 (br_f a (br_f b ⟨rfl, sf_in F⟩)))))
  · rcases z with z | ⟨z, y⟩
    · exact br_t z ⟨rfl, sf_in F⟩
    · exact br_f z (br_t y ⟨rfl, sf_in F⟩)
end
section
/-! compile, raise, check, run, flowAt -/
theorem i_vc_compile {k : Nat} {u : SX} {v : SY} (I : i_Rel k u v) (hk : k + 4 ≤ 2051) : wpX_compile (fun r u' => wpY_compile (fun r' v' => r' = r ∧ i_Rel (k + 4) u' v') v) u := by
  refine sf_el (P := fun u v => wpX_compile (fun r u' => wpY_compile (fun r' v' => r' = r ∧ i_Rel (k + 4) u' v') v) u) ?_ I
  intro nv nt no c xs xf xr xp xl xn xq xy xd xe xw xk xj xh xz yp K A L aI aS M oL oC oV kS kM kC kV cO cA cT cE oP bK bB bL sT rE rO fL wK wV wS wL F
  obtain ⟨f1, f2, f3, f4, f5, f6, f7, f8, f9⟩ := F
  have hc : c ≤ 96 := by omega
  unfold wpX_compile
  refine sf_x_parse hc f6 (fun q hq nf lf => ?_) (fun nf lf => ?_) (fun fi lf => ?_)
  · intro xn xq xy xd xe xw xk xj xh cO cA cT cE oP bK bB bL
    refine br_f (nI_pos (by omega)) ⟨c + 1, sf_y_compile7 hc (fun q' hq' nf' lf' => ?_) (fun _ lf' => absurd (lf' q hq) nf) (fun _ lf' => absurd (lf' q hq) nf) c 0 (c + 1) (by omega) (by omega) (fun i hi => absurd hi (by omega))⟩
    have e : q' = q := by
      rcases Nat.lt_trichotomy q' q with z | z | z
      · exact absurd (lf q' z) nf'
      · exact z
      · exact absurd (lf' q z) nf
    subst e
    exact ⟨rfl, sf_in ⟨f1, f2, f3, f4, f5, f6, f7, Or.inl rfl, fun z => absurd z (by decide)⟩⟩
  · intro xn xq xy xd xe xw xk xj xh cO cA cT cE oP bK bB bL
    refine br_f (nI_pos (by omega)) ⟨c + 1, sf_y_compile7 hc (fun q' hq' nf' lf' => absurd (lf q' hq') nf') (fun _ lf' => ?_) (fun fi _ => absurd fi nf) c 0 (c + 1) (by omega) (by omega) (fun i hi => absurd hi (by omega))⟩
    exact ⟨rfl, sf_in ⟨f1, f2, f3, f4, f5, f6, f7, Or.inl rfl, fun z => absurd z (by decide)⟩⟩
  · intro xn xq xy xd xe xw xk xj xh cO cA cT cE oP bK bB bL e1 e2 e3
    refine br_t sf_n1lt ⟨c + 1, sf_y_compile7 hc (fun q' hq' nf' lf' => absurd (lf q' hq') nf') (fun nf _ => absurd fi nf) (fun _ _ => ?_) c 0 (c + 1) (by omega) (by omega) (fun i hi => absurd hi (by omega))⟩
    exact ⟨rfl, sf_in ⟨f1, f2, f3, f4, f5, f6, f7, Or.inr ⟨e1, lf, fi.2.2, e2, e3⟩, fun z => absurd z (by decide)⟩⟩
theorem i_vc_raise {k : Nat} {u : SX} {v : SY} (I : i_Rel k u v) (hk : k + 4 ≤ 2051) : wpX_raise (fun r u' => wpY_raise (fun r' v' => r' = r ∧ i_Rel (k + 4) u' v') v) u := by
  refine sf_el (P := fun u v => wpX_raise (fun r u' => wpY_raise (fun r' v' => r' = r ∧ i_Rel (k + 4) u' v') v) u) ?_ I
  intro nv nt no c xs xf xr xp xl xn xq xy xd xe xw xk xj xh xz yp K A L aI aS M oL oC oV kS kM kC kV cO cA cT cE oP bK bB bL sT rE rO fL wK wV wS wL F
  obtain ⟨f1, f2, f3, f4, f5, f6, f7, f8, f9⟩ := F
  have F : sf_FA nv nt no c K A L xs xp xl yp xn cO cA cT cE := ⟨f1, f2, f3, f4, f5, f6, f7, f8, f9⟩
  by_cases s0 : xs = 0
  · exact br_t s0 (br_t s0 ⟨rfl, sf_in F⟩)
  · have C : sf_CM nv c K A xn cO cA cT cE := f8.resolve_left s0
    have ha2 : ∀ i, i < c → K i = 2 → (A i).toNatClampNeg < nv := fun i hi k => (sf_cl ((f6 i hi).2.1 k) (by omega)).1
    refine sf_x_raise s0 C (by omega) f6 f2 f7 fun LX oL sT rE rO fL xz X XC XR => ?_
    refine sf_y_raise s0 f2 (by omega) f6 f7 X XC XR fun wS wL => ⟨rfl, ?_⟩
    exact sf_in ⟨f1, f2, f3, f4, f5, f6, sf_LX_LB X ha2 f7, Or.inr C, fun z => absurd z (by decide)⟩
theorem i_vc_check {k : Nat} {u : SX} {v : SY} (I : i_Rel k u v) (hk : k + 4 ≤ 2051) : wpX_check (fun r u' => wpY_check (fun r' v' => r' = r ∧ i_Rel (k + 4) u' v') v) u := by
  refine sf_el (P := fun u v => wpX_check (fun r u' => wpY_check (fun r' v' => r' = r ∧ i_Rel (k + 4) u' v') v) u) ?_ I
  intro nv nt no c xs xf xr xp xl xn xq xy xd xe xw xk xj xh xz yp K A L aI aS M oL oC oV kS kM kC kV cO cA cT cE oP bK bB bL sT rE rO fL wK wV wS wL F
  obtain ⟨f1, f2, f3, f4, f5, f6, f7, f8, f9⟩ := F
  have F : sf_FA nv nt no c K A L xs xp xl yp xn cO cA cT cE := ⟨f1, f2, f3, f4, f5, f6, f7, f8, f9⟩
  by_cases s0 : xs = 0
  · exact br_t s0 (br_t s0 ⟨rfl, sf_in F⟩)
  · have C : sf_CM nv c K A xn cO cA cT cE := f8.resolve_left s0
    by_cases s4 : xs = 4
    · exact br_f s0 (br_t s4 (br_f s0 (br_t s4 ⟨rfl, sf_in F⟩)))
    · by_cases s5 : xs = 5
      · exact br_f s0 (br_f s4 (br_t s5 (br_f s0 (br_f s4 (br_t s5 ⟨rfl, sf_in F⟩)))))
      · obtain ⟨r, hr⟩ := sf_FU_ex true L K A c c 0 (by omega)
        have a2 : ∀ i, i < c → K i = 2 → vp_in (A i) 8 := fun i hi k => sf_in8 ((f6 i hi).2.1 k) f2 (by omega)
        have a6 : ∀ i, i < c → K i = 6 → vp_in (A i) 8 := fun i hi k => sf_in8 ((f6 i hi).2.2.2.1 k) f2 (by omega)
        refine br_f s0 (br_f s4 (br_f s5 (sf_x_analyse C (by omega) f2 fun sT rE rO fL hfl => ?_)))
        refine sf_x_fu C (by omega) f6 f2 hfl hr ?_
        by_cases z : 0 ≤ r
        · refine br_t z (br_f s0 (br_f s4 (br_f s5 (sf_y_fu (ou := true) rfl (by omega) a2 a6 hr (br_t z ⟨rfl, ?_⟩)))))
          exact sf_in ⟨f1, f2, f3, f4, f5, f6, f7, Or.inr C, fun z => absurd z (by decide)⟩
        · refine br_f z (br_f s0 (br_f s4 (br_f s5 (sf_y_fu (ou := true) rfl (by omega) a2 a6 hr (br_f z ⟨rfl, ?_⟩)))))
          exact sf_in ⟨f1, f2, f3, f4, f5, f6, f7, Or.inr C, fun z => absurd z (by decide)⟩
theorem i_vc_flowAt {k : Nat} {u : SX} {v : SY} (I : i_Rel k u v) (hk : k + 4 ≤ 2051) (v1 : Int32) : wpX_flowAt (fun r u' => wpY_flowAt (fun r' => r' = r ∧ i_Rel (k + 4) u' v) v v1) u v1 := by
  refine sf_el (P := fun u v => wpX_flowAt (fun r u' => wpY_flowAt (fun r' => r' = r ∧ i_Rel (k + 4) u' v) v v1) u v1) ?_ I
  intro nv nt no c xs xf xr xp xl xn xq xy xd xe xw xk xj xh xz yp K A L aI aS M oL oC oV kS kM kC kV cO cA cT cE oP bK bB bL sT rE rO fL wK wV wS wL F
  obtain ⟨f1, f2, f3, f4, f5, f6, f7, f8, f9⟩ := F
  have F : sf_FA nv nt no c K A L xs xp xl yp xn cO cA cT cE := ⟨f1, f2, f3, f4, f5, f6, f7, f8, f9⟩
  have hc : c ≤ 96 := by omega
  by_cases s0 : xs = 0
  · exact br_t s0 (br_t s0 ⟨rfl, sf_in F⟩)
  · have C : sf_CM nv c K A xn cO cA cT cE := f8.resolve_left s0
    by_cases a : v1 < 0
    · exact br_f s0 (br_t a (br_f s0 (br_t a ⟨rfl, sf_in F⟩)))
    · obtain ⟨j, hj, rfl⟩ := nI_of a
      rcases Nat.lt_or_ge j c with z | z
      · have lt := nI_lt z (by omega)
        have hv : vp_in (nI j) 96 := vp_in_nI (by omega) (by omega)
        have cl : (nI j).toNatClampNeg = j := nI_clamp (by omega)
        have a2 : ∀ i, i < c → K i = 2 → vp_in (A i) 8 := fun i hi k => sf_in8 ((f6 i hi).2.1 k) f2 (by omega)
        refine br_f s0 (br_f a (br_t lt (And.intro hv ?_)))
        rw [cl]
        refine sf_x_begins (fun hb => br_f (by decide) ?_) (fun nb => br_t rfl ?_)
        · refine sf_x_analyse C hc f2 fun sT rE rO fL hfl => ?_
          refine And.intro hv ?_
          rw [hfl j z hb]
          refine br_f s0 (br_f a (br_t lt (And.intro hv ?_)))
          rw [cl]
          refine sf_y_begins (fun _ => br_f (by decide) ?_) (fun nb => absurd hb nb)
          exact sf_y_flow hc z a2 ⟨rfl, sf_in F⟩
        · refine br_f s0 (br_f a (br_t lt (And.intro hv ?_)))
          rw [cl]
          exact sf_y_begins (fun hb => absurd hb nb) (fun _ => br_t rfl ⟨rfl, sf_in F⟩)
      · have nlt := nI_nlt z hj
        exact br_f s0 (br_f a (br_f nlt (br_f s0 (br_f a (br_f nlt ⟨rfl, sf_in F⟩)))))
theorem i_vc_run {k : Nat} {u : SX} {v : SY} (I : i_Rel k u v) (hk : k + 4 ≤ 2051) (v1 : Int32) : wpX_run (fun r u' => wpY_run (fun r' v' => r' = r ∧ i_Rel (k + 4) u' v') v v1) u v1 := by
  refine sf_el (P := fun u v => wpX_run (fun r u' => wpY_run (fun r' v' => r' = r ∧ i_Rel (k + 4) u' v') v v1) u v1) ?_ I
  intro nv nt no c xs xf xr xp xl xn xq xy xd xe xw xk xj xh xz yp K A L aI aS M oL oC oV kS kM kC kV cO cA cT cE oP bK bB bL sT rE rO fL wK wV wS wL F
  obtain ⟨f1, f2, f3, f4, f5, f6, f7, f8, f9⟩ := F
  have F : sf_FA nv nt no c K A L xs xp xl yp xn cO cA cT cE := ⟨f1, f2, f3, f4, f5, f6, f7, f8, f9⟩
  have hc : c ≤ 96 := by omega
  by_cases s5 : xs = 5
  · exact br_t s5 (br_t s5 ⟨rfl, sf_in F⟩)
  · by_cases s4 : xs = 4
    · obtain ⟨R, r1, r2, r3⟩ := sf_c3_in (x := v1) (lo := 1) (hi := 64) (by omega) (by omega)
      have r3' : sf_c3 v1 1 64 = nI R := r3
      have C : sf_CM nv c K A xn cO cA cT cE := f8.resolve_left (by rw [s4]; decide)
      obtain ⟨p, p1, p2, p3, p4, p5⟩ := f9 s4
      subst s4 p3 p4 p5
      have e0 := C.1
      subst e0
      have adc := sf_ad_le (K := K) c
      generalize hcl : sf_ad K c + 1 = cl at *
      have b1 : R * cl ≤ 64 * 97 := Nat.mul_le_mul r2 (by omega)
      have b2 : R * (c + 1) ≤ 64 * 97 := Nat.mul_le_mul r2 (by omega)
      have el : (nI R + 1) * (nI cl + 1) = nI (R * cl + cl + R + 1) := by
        rw [nI_1, nI_1, pk_mul]
        exact congrArg nI (by rw [Nat.succ_mul, Nat.mul_succ]; omega)
      have em : (nI R + 2) * (nI c + 2) = nI (R * (c + 1) + R + 2 * c + 4) := by
        rw [sf_2, sf_2, pk_mul]
        exact congrArg nI (by rw [Nat.add_mul, show c + 2 = (c + 1) + 1 from rfl, Nat.mul_succ]; omega)
      obtain ⟨r, xs', xp', xl', yp', M', oC', oV', O, PX, PY⟩ := sf_run (xv := nI nv) (xt := nI nt) (xf := xf) (xr := xr) (xl := nI p) (xq := xq) (xy := xy) (xd := xd) (xe := xe) (xw := xw) (xk := xk) (xj := xj) (xh := xh) (L := L) (aI := aI) (aS := aS) (oL := oL) (kS := kS) (kM := kM) (kC := kC) (kV := kV) (oP := oP) (bK := bK) (bB := bB) (bL := bL) (rE := rE) (rO := rO) (fL := fL)
        (yv := nI nv) (yt := nI nt) (yf := xf) (yr := xr) (wS := wS) (wL := wL) C hcl.symm hc f6 f2 f4 (R := R) (lim := R * cl + cl + R + 1) (most := R * (c + 1) + R + 2 * c + 4) (by omega) rfl rfl (by omega) (by omega)
        (R * (c + 2) + (1 + (c - p)) + 1) R p 0 0 0 0 M oC oV (by split <;> omega) p2 p1 (Nat.le_refl _) (by omega) (by omega) (Or.inl (by omega)) (Or.inl (by omega))
      have FN : sf_FA nv nt no c K A L xs' xp' xl' yp' (nI cl) cO cA cT cE := by
        refine ⟨f1, f2, f3, f4, f5, f6, f7, Or.inr C, fun z => ?_⟩
        rcases O with ⟨_, y⟩ | ⟨_, _, q, q1, q2, q3, q4, q5⟩
        · rw [y] at z; exact absurd z (by decide)
        · exact ⟨q, q1, q2, q3, q4, q5⟩
      have rr : r = xs' := by
        rcases O with ⟨y, w⟩ | ⟨y, w, _⟩
        · rw [y, w]
        · rw [y, w]
      refine br_f s5 (br_t rfl (sf_x_clamp ?_))
      rw [r3']
      unfold wpX_execute
      refine nm_r el ⟨R * cl + cl + R + 2, PX _ (R * cl + cl + R + 2) sT (by omega) fun sT' xz' => ?_⟩
      refine br_f s5 (br_t rfl (sf_y_clamp ?_))
      rw [r3']
      refine nm_r em ⟨R * (c + 1) + R + 2 * c + 5, ?_⟩
      have Y := PY (fun r' v' => r' = xs' ∧ i_Rel (k + 4) ((nI nv), (nI nt), (nI no), (nI c), xs', xf, xr, xp', xl', (nI cl), xq, xy, xd, xe, xw, xk, xj, xh, xz', K, A, L, aI, aS, M', oL, oC', oV', kS, kM, kC, kV, cO, cA, cT, cE, oP, bK, bB, bL, sT', rE, rO, fL) v') (R * (c + 1) + R + 2 * c + 5) wK wV (by omega) fun wK' wV' => ⟨rr, sf_in FN⟩
      rw [Nat.sub_self] at Y
      exact Y
    · exact br_f s5 (br_f s4 (br_f s5 (br_f s4 ⟨rfl, sf_in F⟩)))
end
