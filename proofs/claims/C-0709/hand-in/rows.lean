section
theorem pk_us {f : Nat → Int32} {k : Nat} {x : Int32} : upd f k x k = x := if_pos rfl
theorem pk_un {f : Nat → Int32} {k j : Nat} {x : Int32} (h : j ≠ k) : upd f k x j = f j := if_neg h
theorem pk_sub {a b : Nat} (h : b ≤ a) : nI a - nI b = nI (a - b) := by
  obtain ⟨c, rfl⟩ : ∃ c, a = c + b := ⟨a - b, by omega⟩
  rw [← nI_add, Int32.add_sub_cancel, Nat.add_sub_cancel]
theorem pk_m1 (n : Nat) : nI (n + 1) + (-1) = nI n := by
  rw [← nI_1, Int32.add_assoc, show (1 : Int32) + (-1) = 0 from rfl, Int32.add_zero]
theorem pk_mul (a b : Nat) : nI a * nI b = nI (a * b) := (Int32.ofNat_mul a b).symm
theorem pk_div {a d : Nat} (ha : a < 2 ^ 31) (h0 : 0 < d) (hd : d < 2 ^ 31) : nI a / nI d = nI (a / d) := by
  apply Int32.toInt_inj.mp
  rw [lg_idiv_nonneg (by rw [nI_toInt ha]; omega) (by rw [nI_toInt hd]; omega), nI_toInt ha, nI_toInt hd, nI_toInt (Nat.lt_of_le_of_lt (Nat.div_le_self a d) ha)]
  first | rfl | exact (Int.natCast_ediv _ _).symm
theorem pk_rem {a d : Nat} (ha : a < 2 ^ 31) (h0 : 0 < d) (hd : d < 2 ^ 31) : nI a - nI a / nI d * nI d = nI (a % d) := by
  rw [pk_div ha h0 hd, pk_mul, pk_sub (Nat.div_mul_le_self a d)]
  exact congrArg nI (by have := Nat.div_add_mod' a d; omega)
theorem pk_sub_toInt {a b : Nat} (ha : a < 2 ^ 30) (hb : b < 2 ^ 30) : (nI a - nI b).toInt = (a : Int) - b := by
  rw [Int32.toInt_sub, nI_toInt (by omega), nI_toInt (by omega)]
  exact Int.bmod_eq_of_le (by omega) (by omega)
theorem pk_sneg {a b : Nat} (hb : b < 2 ^ 30) (h : a < b) : nI a - nI b < 0 := by
  rw [Int32.lt_iff_toInt_lt, pk_sub_toInt (by omega) hb, show (0 : Int32).toInt = 0 from by decide]
  omega
theorem pk_ix (x : Int32) {n : Nat} (hn : n < 2 ^ 31) : x < 0 ∨ nI n ≤ x ∨ ∃ j : Nat, j < n ∧ x = nI j := by
  by_cases h : x < 0
  · exact Or.inl h
  · obtain ⟨j, hj, rfl⟩ := nI_of h
    by_cases h2 : j < n
    · exact Or.inr (Or.inr ⟨j, h2, rfl⟩)
    · exact Or.inr (Or.inl (nI_le (by omega) hj))
theorem pk_le {x y : Int32} {A B : Prop} (a b : Nat) (f : a ≤ b → A) (g : b < a → B) (hx : x = nI a := by rfl) (hy : y = nI b := by rfl) (ha : a < 2 ^ 31 := by omega) (hb : b < 2 ^ 31 := by omega) : (x ≤ y → A) ∧ (¬ x ≤ y → B) := by
  subst hx hy
  rw [nI_leI ha hb]
  exact ⟨f, fun z => g (by omega)⟩
theorem pk_lt {x y : Int32} {A B : Prop} (a b : Nat) (f : a < b → A) (g : b ≤ a → B) (hx : x = nI a := by rfl) (hy : y = nI b := by rfl) (ha : a < 2 ^ 31 := by omega) (hb : b < 2 ^ 31 := by omega) : (x < y → A) ∧ (¬ x < y → B) := by
  subst hx hy
  rw [nI_ltI ha hb]
  exact ⟨f, fun z => g (by omega)⟩
theorem pk_eq {x y : Int32} {A B : Prop} (a b : Nat) (f : a = b → A) (g : a ≠ b → B) (hx : x = nI a := by rfl) (hy : y = nI b := by rfl) (ha : a < 2 ^ 31 := by omega) (hb : b < 2 ^ 31 := by omega) : (x = y → A) ∧ (¬ x = y → B) := by
  subst hx hy
  rw [nI_eq ha hb]
  exact ⟨f, g⟩
theorem pk_in {x : Int32} (n N : Nat) (h : n < N) (hx : x = nI n := by rfl) (hN : N < 2 ^ 31 := by omega) : vp_in x N := by
  subst hx
  exact vp_in_nI h hN
theorem pk_cl {x : Int32} (n : Nat) (hx : x = nI n := by rfl) (h : n < 2 ^ 31 := by omega) : x.toNatClampNeg = n := by
  subst hx
  exact nI_clamp h
theorem pk_tn {n : Nat} (h : n < 2 ^ 32) : (nI n).toBitVec.toNat = n := Nat.mod_eq_of_lt h
theorem pk_and (x : Int32) {m : Int32} (k : Nat) (hm : m.toBitVec.toNat = 2 ^ k - 1) : x &&& m = nI (x.toBitVec.toNat % 2 ^ k) := by
  apply Int32.toBitVec_inj.mp
  apply BitVec.eq_of_toNat_eq
  rw [Int32.toBitVec_and, BitVec.toNat_and, hm, Nat.and_two_pow_sub_one_eq_mod]
  show _ = (BitVec.ofNat 32 _).toNat
  rw [BitVec.toNat_ofNat]
  exact (Nat.mod_eq_of_lt (Nat.lt_of_le_of_lt (Nat.mod_le _ _) x.toBitVec.isLt)).symm
theorem pk_andN {n : Nat} (h : n < 2 ^ 32) {m : Int32} (k : Nat) (hm : m.toBitVec.toNat = 2 ^ k - 1) : nI n &&& m = nI (n % 2 ^ k) := by
  rw [pk_and _ k hm, pk_tn h]
theorem pk_andE (x : Int32) {m : Int32} (k : Nat) (hm : m.toBitVec.toNat = 2 ^ k - 1) : ∃ j : Nat, j < 2 ^ k ∧ x &&& m = nI j := ⟨_, Nat.mod_lt _ (Nat.two_pow_pos k), pk_and x k hm⟩
theorem pk_andIn (x : Int32) {m : Int32} (k : Nat) (hm : m.toBitVec.toNat = 2 ^ k - 1) (hk : k ≤ 30) : vp_in (x &&& m) (2 ^ k) := by
  obtain ⟨j, hj, e⟩ := pk_andE x k hm
  rw [e]
  exact vp_in_nI hj (Nat.lt_of_le_of_lt (Nat.pow_le_pow_right (by decide) hk) (by decide))
theorem pk_shl (a s : Int32) (k : Nat) (hs : (s.toBitVec.smod 32).toNat = k) : (a <<< s).toBitVec.toNat = a.toBitVec.toNat * 2 ^ k % 2 ^ 32 := by
  show (a.toBitVec <<< (s.toBitVec.smod 32).toNat).toNat = _
  rw [hs, BitVec.toNat_shiftLeft, Nat.shiftLeft_eq]
theorem pk_shlN {n : Nat} (s : Int32) (k : Nat) (hs : (s.toBitVec.smod 32).toNat = k) (h : n * 2 ^ k < 2 ^ 32) : nI n <<< s = nI (n * 2 ^ k) := by
  apply Int32.toBitVec_inj.mp
  apply BitVec.eq_of_toNat_eq
  have hn : n < 2 ^ 32 := Nat.lt_of_le_of_lt (Nat.le_mul_of_pos_right n (Nat.two_pow_pos k)) h
  rw [pk_shl _ _ k hs, pk_tn hn, pk_tn h, Nat.mod_eq_of_lt h]
theorem pk_shr (a s : Int32) (k : Nat) (hs : (s.toBitVec.smod 32).toNat = k) : (a >>> s).toInt = a.toInt >>> k := by
  show (a.toBitVec.sshiftRight (s.toBitVec.smod 32).toNat).toInt = _
  rw [hs, BitVec.toInt_sshiftRight]
  rfl
theorem pk_shrN {n : Nat} (h : n < 2 ^ 31) (s : Int32) (k : Nat) (hs : (s.toBitVec.smod 32).toNat = k) : nI n >>> s = nI (n / 2 ^ k) := by
  apply Int32.toInt_inj.mp
  have h2 : n / 2 ^ k ≤ n := Nat.div_le_self _ _
  rw [pk_shr _ _ k hs, nI_toInt h, nI_toInt (by omega), Int.shiftRight_eq_div_pow]
  rfl
theorem pk_vb (z : Int32) : vp_nar .byte z.toInt8.toInt32 = z.toInt8.toInt32 := by rw [vp_nar_byte]; simp
theorem pk_vs (z : Int32) : vp_nar .short z.toInt16.toInt32 = z.toInt16.toInt32 := by rw [vp_nar_short]; simp
theorem pk_least (P : Nat → Prop) (h : ∃ k, P k) : ∃ k, P k ∧ ∀ j, j < k → ¬ P j := by
  obtain ⟨k, hk⟩ := h
  induction k using Nat.strongRecOn with
  | ind k ih =>
    by_cases e : ∃ j, j < k ∧ P j
    · obtain ⟨j, hj, pj⟩ := e
      exact ih j hj pj
    · exact ⟨k, hk, fun j hj pj => e ⟨j, hj, pj⟩⟩
def bt (x : Int32) (i : Nat) : Bool := x.toBitVec.getLsbD i
theorem b_ext {x y : Int32} (h : ∀ i, i < 32 → bt x i = bt y i) : x = y := Int32.toBitVec_inj.mp (BitVec.eq_of_getLsbD_eq (fun i hi => h i hi))
theorem b_or (x y : Int32) (i : Nat) : bt (x ||| y) i = (bt x i || bt y i) := by unfold bt; rw [Int32.toBitVec_or, BitVec.getLsbD_or]
theorem b_and (x y : Int32) (i : Nat) : bt (x &&& y) i = (bt x i && bt y i) := by unfold bt; rw [Int32.toBitVec_and, BitVec.getLsbD_and]
theorem b_xor (x y : Int32) (i : Nat) : bt (x ^^^ y) i = (bt x i ^^ bt y i) := by unfold bt; rw [Int32.toBitVec_xor, BitVec.getLsbD_xor]
theorem b_big {x : Int32} {i : Nat} (h : 32 ≤ i) : bt x i = false := BitVec.getLsbD_of_ge _ _ h
theorem b_m1 : ∀ i, i < 32 → bt (-1) i = true := by decide +kernel
theorem b_0 (i : Nat) : bt 0 i = false := BitVec.getLsbD_zero
theorem s_l : ∀ n, n < 32 → ((nI n &&& 31).toBitVec.smod 32).toNat = n := by decide +kernel
theorem b_shl (n : Nat) (hn : n < 32) (x : Int32) {i : Nat} (hi : i < 32) : bt (x <<< (nI n &&& 31)) i = (decide (n ≤ i) && bt x (i - n)) := by
  unfold bt
  rw [Int32.toBitVec_shiftLeft]
  show (x.toBitVec <<< ((nI n &&& 31).toBitVec.smod 32).toNat).getLsbD i = _
  rw [s_l n hn, BitVec.getLsbD_shiftLeft]
  rcases Nat.lt_or_ge i n with h | h
  · simp [h, Nat.not_le.mpr h]
  · simp [hi, h, Nat.not_lt.mpr h]
theorem b_sshr (n : Nat) (hn : n < 32) (x : Int32) {i : Nat} (hi : i < 32) : bt (x >>> (nI n &&& 31)) i = if n + i < 32 then bt x (n + i) else bt x 31 := by
  unfold bt
  rw [Int32.toBitVec_shiftRight]
  show (x.toBitVec.sshiftRight ((nI n &&& 31).toBitVec.smod 32).toNat).getLsbD i = _
  rw [s_l n hn, BitVec.getLsbD_sshiftRight, BitVec.msb_eq_getLsbD_last]
  simp [hi]
theorem nf_sh : ∀ l, l < 32 → ((1 : Int32) <<< (nI l &&& 31)).toBitVec = BitVec.twoPow 32 l := by decide +kernel
theorem ts_nf {x : Bool} (h : ¬ x = false) : x = true := by cases x <;> first | rfl | exact absurd rfl h
theorem ts_nt {x : Bool} (h : ¬ x = true) : x = false := by cases x <;> first | rfl | exact absurd rfl h
end
section
/-! the grammar: H r (rule r is there), K r (its kind), L r (its length), S r d (its symbols), W i (the word), N -/
abbrev gs_G : Type := (Nat → Bool) × (Nat → Nat) × (Nat → Nat) × (Nat → Nat → Nat) × (Nat → Nat) × Nat
def gs_H (g : gs_G) (r : Nat) : Bool := g.1 r
def gs_K (g : gs_G) (r : Nat) : Nat := g.2.1 r
def gs_L (g : gs_G) (r : Nat) : Nat := g.2.2.1 r
def gs_S (g : gs_G) (r d : Nat) : Nat := g.2.2.2.1 r d
def gs_W (g : gs_G) (i : Nat) : Nat := g.2.2.2.2.1 i
def gs_N (g : gs_G) : Nat := g.2.2.2.2.2
def gs_ok (g : gs_G) : Prop :=
  (∀ r, r < 16 → gs_K g r < 5) ∧ (∀ r, r < 16 → gs_L g r ≤ 3) ∧ (∀ r d, r < 16 → d < 3 → gs_S g r d < 8) ∧ (∀ i, i < gs_N g → gs_W g i < 3) ∧ gs_N g ≤ 10
/-- a symbol makes a stretch, by what D says of the kinds -/
def gs_cov (g : gs_G) (D : Nat → Nat → Nat → Prop) (s i j : Nat) : Prop :=
  (s < 5 ∧ D s i j) ∨ (5 ≤ s ∧ j = i + 1 ∧ i < gs_N g ∧ gs_W g i + 5 = s)
/-- the first d symbols of rule r make the stretch from i to j -/
def gs_pre (g : gs_G) (D : Nat → Nat → Nat → Prop) (r i : Nat) : Nat → Nat → Prop
  | 0 => fun j => j = i
  | d + 1 => fun j => ∃ m, gs_pre g D r i d m ∧ gs_cov g D (gs_S g r d) m j
def gs_rcl (g : gs_G) (D : Nat → Nat → Nat → Prop) (r : Nat) : Prop :=
  ∀ i j, i ≤ gs_N g → gs_pre g D r i (gs_L g r) j → D (gs_K g r) i j
def gs_cl (g : gs_G) (D : Nat → Nat → Nat → Prop) : Prop := ∀ r, r < 16 → gs_H g r = true → gs_rcl g D r
def gs_Der (g : gs_G) (k i j : Nat) : Prop := ∀ D, gs_cl g D → D k i j

theorem gs_cov_mono {g : gs_G} {D E : Nat → Nat → Nat → Prop} (h : ∀ k i j, D k i j → E k i j) {s i j : Nat} (c : gs_cov g D s i j) : gs_cov g E s i j := by
  rcases c with ⟨a, b⟩ | c
  · exact Or.inl ⟨a, h _ _ _ b⟩
  · exact Or.inr c
theorem gs_pre_mono {g : gs_G} {D E : Nat → Nat → Nat → Prop} (h : ∀ k i j, D k i j → E k i j) {r i : Nat} : ∀ {d j : Nat}, gs_pre g D r i d j → gs_pre g E r i d j := by
  intro d
  induction d with
  | zero => intro j c; exact c
  | succ d ih =>
    intro j c
    obtain ⟨m, a, b⟩ := c
    exact ⟨m, ih a, gs_cov_mono h b⟩
theorem gs_Der_cl (g : gs_G) : gs_cl g (gs_Der g) := by
  intro r hr hh i j hi hp D hD
  exact hD r hr hh i j hi (gs_pre_mono (fun k i j c => c D hD) hp)
theorem gs_Der_ind {g : gs_G} (Q : Nat → Nat → Nat → Prop)
    (h : ∀ r, r < 16 → gs_H g r = true → ∀ i j, i ≤ gs_N g → gs_pre g (fun k i j => gs_Der g k i j ∧ Q k i j) r i (gs_L g r) j → Q (gs_K g r) i j)
    {k i j : Nat} (d : gs_Der g k i j) : Q k i j := by
  have hc : gs_cl g (fun k i j => gs_Der g k i j ∧ Q k i j) := by
    intro r hr hh i j hi hp
    exact ⟨gs_Der_cl g r hr hh i j hi (gs_pre_mono (fun _ _ _ c => c.1) hp), h r hr hh i j hi hp⟩
  exact (d _ hc).2
theorem gs_cov_rng {g : gs_G} {D : Nat → Nat → Nat → Prop} (hD : ∀ k i j, D k i j → i ≤ j ∧ j ≤ gs_N g) {s i j : Nat} (c : gs_cov g D s i j) : i ≤ j ∧ j ≤ gs_N g := by
  rcases c with ⟨_, b⟩ | ⟨_, b, c, _⟩
  · exact hD _ _ _ b
  · omega
theorem gs_pre_rng {g : gs_G} {D : Nat → Nat → Nat → Prop} (hD : ∀ k i j, D k i j → i ≤ j ∧ j ≤ gs_N g) {r i : Nat} (hi : i ≤ gs_N g) : ∀ {d j : Nat}, gs_pre g D r i d j → i ≤ j ∧ j ≤ gs_N g := by
  intro d
  induction d with
  | zero => intro j c; have e : j = i := c; omega
  | succ d ih =>
    intro j c
    obtain ⟨m, a, b⟩ := c
    have h1 := ih a
    have h2 := gs_cov_rng hD b
    omega
theorem gs_Der_rng {g : gs_G} {k i j : Nat} (d : gs_Der g k i j) : i ≤ j ∧ j ≤ gs_N g := by
  refine d (fun _ i j => i ≤ j ∧ j ≤ gs_N g) ?_
  intro r _ _ i j hi hp
  exact gs_pre_rng (fun _ _ _ c => c) hi hp
theorem gs_Der_k {g : gs_G} (ok : gs_ok g) {k i j : Nat} (d : gs_Der g k i j) : k < 5 := by
  refine d (fun k _ _ => k < 5) ?_
  intro r hr _ i j _ _
  exact ok.1 r hr
theorem gs_Der_inv {g : gs_G} {k i j : Nat} (d : gs_Der g k i j) : ∃ r, r < 16 ∧ gs_H g r = true ∧ gs_K g r = k ∧ i ≤ gs_N g ∧ gs_pre g (gs_Der g) r i (gs_L g r) j := by
  refine gs_Der_ind (fun k i j => ∃ r, r < 16 ∧ gs_H g r = true ∧ gs_K g r = k ∧ i ≤ gs_N g ∧ gs_pre g (gs_Der g) r i (gs_L g r) j) ?_ d
  intro r hr hh i j hi hp
  exact ⟨r, hr, hh, rfl, hi, gs_pre_mono (fun _ _ _ c => c.1) hp⟩
/-- a set that is closed and holds only what is derived is the derived one -/
theorem gs_Der_iff {g : gs_G} {D : Nat → Nat → Nat → Prop} (hs : ∀ k i j, D k i j → gs_Der g k i j) (hc : gs_cl g D) (k i j : Nat) : D k i j ↔ gs_Der g k i j :=
  ⟨hs k i j, fun d => d D hc⟩

/-! kinds that make the empty list -/
def gs_nr (g : gs_G) (Z : Nat → Prop) (r : Nat) : Prop := ∀ d, d < gs_L g r → gs_S g r d < 5 ∧ Z (gs_S g r d)
def gs_ncl (g : gs_G) (Z : Nat → Prop) : Prop := ∀ r, r < 16 → gs_H g r = true → gs_nr g Z r → Z (gs_K g r)
def gs_Nul (g : gs_G) (k : Nat) : Prop := ∀ Z, gs_ncl g Z → Z k
theorem gs_Nul_cl (g : gs_G) : gs_ncl g (gs_Nul g) := by
  intro r hr hh hn Z hZ
  exact hZ r hr hh (fun d hd => ⟨(hn d hd).1, (hn d hd).2 Z hZ⟩)
theorem gs_Nul_k {g : gs_G} (ok : gs_ok g) {k : Nat} (h : gs_Nul g k) : k < 5 :=
  h (fun k => k < 5) (fun r hr _ _ => ok.1 r hr)
theorem gs_pre_nul {g : gs_G} {D : Nat → Nat → Nat → Prop} {r i : Nat} : ∀ {d : Nat}, (∀ e, e < d → gs_S g r e < 5 ∧ D (gs_S g r e) i i) → gs_pre g D r i d i := by
  intro d
  induction d with
  | zero => intro _; exact rfl
  | succ d ih =>
    intro h
    exact ⟨i, ih (fun e he => h e (by omega)), Or.inl (h d (by omega))⟩
theorem gs_Nul_Der {g : gs_G} {k : Nat} (h : gs_Nul g k) : ∀ i, i ≤ gs_N g → gs_Der g k i i := by
  refine h (fun k => ∀ i, i ≤ gs_N g → gs_Der g k i i) ?_
  intro r hr hh hn i hi
  exact gs_Der_cl g r hr hh i i hi (gs_pre_nul (fun e he => ⟨(hn e he).1, (hn e he).2 i hi⟩))
theorem gs_pre_inul {g : gs_G} {D : Nat → Nat → Nat → Prop} (hD : ∀ k i j, D k i j → i ≤ j ∧ j ≤ gs_N g) {r i : Nat} (hi : i ≤ gs_N g) : ∀ {d j : Nat}, gs_pre g D r i d j → j = i → ∀ e, e < d → gs_S g r e < 5 ∧ D (gs_S g r e) i i := by
  intro d
  induction d with
  | zero => intro j _ _ e he; omega
  | succ d ih =>
    intro j c hj e he
    obtain ⟨m, a, b⟩ := c
    have h1 := gs_pre_rng hD hi a
    have h2 := gs_cov_rng hD b
    have hm : m = i := by omega
    by_cases h : e = d
    · subst h
      subst hm hj
      rcases b with b | ⟨_, b, _⟩
      · exact b
      · omega
    · exact ih a hm e (by omega)
theorem gs_Der_Nul {g : gs_G} {k i j : Nat} (d : gs_Der g k i j) : i = j → gs_Nul g k := by
  refine gs_Der_ind (fun k i j => i = j → gs_Nul g k) ?_ d
  intro r hr hh i j hi hp hij
  refine gs_Nul_cl g r hr hh (fun e he => ?_)
  have h := gs_pre_inul (D := fun k i j => gs_Der g k i j ∧ (i = j → gs_Nul g k)) (fun _ _ _ c => gs_Der_rng c.1) hi hp hij.symm e he
  exact ⟨h.1, h.2.2 rfl⟩
theorem gs_Nul_iff {g : gs_G} {k i : Nat} (hi : i ≤ gs_N g) : gs_Der g k i i ↔ gs_Nul g k :=
  ⟨fun d => gs_Der_Nul d rfl, fun h => gs_Nul_Der h i hi⟩

/-! counting -/
def gs_cn (f : Nat → Bool) : Nat → Nat
  | 0 => 0
  | n + 1 => gs_cn f n + (if f n = true then 1 else 0)
theorem gs_cn_le (f : Nat → Bool) : ∀ n, gs_cn f n ≤ n := by
  intro n
  induction n with
  | zero => exact Nat.le_refl 0
  | succ n ih => show gs_cn f n + (if f n = true then 1 else 0) ≤ n + 1; split <;> omega
theorem gs_cn_mono {f h : Nat → Bool} : ∀ n, (∀ t, t < n → f t = true → h t = true) → gs_cn f n ≤ gs_cn h n := by
  intro n
  induction n with
  | zero => intro _; exact Nat.le_refl 0
  | succ n ih =>
    intro hm
    have h1 := ih (fun t ht => hm t (by omega))
    show gs_cn f n + (if f n = true then 1 else 0) ≤ gs_cn h n + (if h n = true then 1 else 0)
    by_cases c : f n = true
    · rw [if_pos c, if_pos (hm n (by omega) c)]; omega
    · rw [if_neg c]; omega
theorem gs_cn_lt {f h : Nat → Bool} : ∀ n, (∀ t, t < n → f t = true → h t = true) → ∀ c, c < n → f c = false → h c = true → gs_cn f n < gs_cn h n := by
  intro n
  induction n with
  | zero => intro _ c hc; omega
  | succ n ih =>
    intro hm c hc h0 h1
    show gs_cn f n + (if f n = true then 1 else 0) < gs_cn h n + (if h n = true then 1 else 0)
    by_cases e : c = n
    · subst e
      have h2 := gs_cn_mono c (fun t ht => hm t (by omega))
      rw [h0, h1]
      simp
      omega
    · have h2 := ih (fun t ht => hm t (by omega)) c (by omega) h0 h1
      by_cases d : f n = true
      · rw [if_pos d, if_pos (hm n (by omega) d)]; omega
      · rw [if_neg d]; omega
/-- different numbers below M are at most M -/
theorem gs_pig : ∀ (M n : Nat) (f : Nat → Nat), (∀ t, t < n → f t < M) → (∀ s t, s < t → t < n → f s ≠ f t) → n ≤ M := by
  intro M
  induction M with
  | zero =>
    intro n f h _
    rcases Nat.eq_zero_or_pos n with h0 | h0
    · omega
    · exact absurd (h 0 h0) (by omega)
  | succ M ih =>
    intro n f h hd
    by_cases hx : ∃ t, t < n ∧ f t = M
    · obtain ⟨p, hp, e⟩ := hx
      -- move the last one to the place of p
      have := ih (n - 1) (fun t => if t < p then f t else f (t + 1)) (by
        intro t ht
        show (if t < p then f t else f (t + 1)) < M
        by_cases c : t < p
        · rw [if_pos c]
          have h1 := h t (by omega)
          have h2 := hd t p c hp
          omega
        · rw [if_neg c]
          have h1 := h (t + 1) (by omega)
          have h2 := hd p (t + 1) (by omega) (by omega)
          omega) (by
        intro s t hs ht
        show (if s < p then f s else f (s + 1)) ≠ (if t < p then f t else f (t + 1))
        by_cases c : t < p
        · rw [if_pos c, if_pos (show s < p by omega)]
          exact hd s t hs (by omega)
        · rw [if_neg c]
          by_cases c2 : s < p
          · rw [if_pos c2]; exact hd s (t + 1) (by omega) (by omega)
          · rw [if_neg c2]; exact hd (s + 1) (t + 1) (by omega) (by omega))
      omega
    · have := ih n f (fun t ht => by
        have h1 := h t ht
        have h2 : f t ≠ M := fun e => hx ⟨t, ht, e⟩
        omega) hd
      omega
end
section
/-! bits: one bit read, set, negated -/
theorem gb_bitv (x : Int32) {j : Nat} (hj : j < 32) : ((x >>> (nI j &&& 31)) &&& 1) = if bt x j = true then 1 else 0 := by
  apply b_ext
  intro i hi
  have h1 : bt (1 : Int32) i = decide (i = 0) := (by decide +kernel : ∀ i, i < 32 → bt (1 : Int32) i = decide (i = 0)) i hi
  rw [b_and, b_sshr j hj x hi, h1]
  by_cases e : i = 0
  · subst e
    rw [if_pos (by omega)]
    by_cases c : bt x j = true
    · rw [if_pos c]; simp [c]; exact h1
    · rw [if_neg c, b_0]; simp at c; simp [c]
  · by_cases c : bt x j = true
    · rw [if_pos c, h1]; simp [e]
    · rw [if_neg c, b_0]; simp [e]
theorem gb_bit (x : Int32) {j : Nat} (hj : j < 32) : ((x >>> (nI j &&& 31)) &&& 1) = 0 ↔ bt x j = false := by
  rw [gb_bitv x hj]
  by_cases c : bt x j = true
  · rw [if_pos c, c]
    exact ⟨fun h => absurd h (by decide), fun h => absurd h (by decide)⟩
  · rw [if_neg c]
    exact ⟨fun _ => ts_nt c, fun _ => rfl⟩
theorem gb_bit1 (x : Int32) {j : Nat} (hj : j < 32) : ((x >>> (nI j &&& 31)) &&& 1) = 1 ↔ bt x j = true := by
  rw [gb_bitv x hj]
  by_cases c : bt x j = true
  · rw [if_pos c]
    exact ⟨fun _ => c, fun _ => rfl⟩
  · rw [if_neg c]
    exact ⟨fun h => absurd h (by decide), fun h => absurd h c⟩
theorem gb_br {x : Int32} {A B : Prop} (j : Nat) (f : bt x j = false → A) (g : bt x j = true → B) (hj : j < 32 := by omega) : (((x >>> (nI j &&& 31)) &&& 1) = 0 → A) ∧ (¬ ((x >>> (nI j &&& 31)) &&& 1) = 0 → B) := by
  rw [gb_bit x hj]
  exact ⟨f, fun h => g (ts_nf h)⟩
theorem gb_br1 {x : Int32} {A B : Prop} (j : Nat) (f : bt x j = true → A) (g : bt x j = false → B) (hj : j < 32 := by omega) : (((x >>> (nI j &&& 31)) &&& 1) = 1 → A) ∧ (¬ ((x >>> (nI j &&& 31)) &&& 1) = 1 → B) := by
  rw [gb_bit1 x hj]
  exact ⟨f, fun h => g (ts_nt h)⟩
theorem gb_one {i j : Nat} (hi : i < 32) (hj : j < 32) : bt ((1 : Int32) <<< (nI i &&& 31)) j = decide (j = i) := by
  have h1 : ∀ i, i < 32 → bt (1 : Int32) i = decide (i = 0) := by decide +kernel
  rw [b_shl i hi 1 hj, h1 (j - i) (by omega)]
  by_cases c : j = i
  · subst c; simp
  · simp [c]; omega
theorem gb_two {i j : Nat} (hi : i < 31) (hj : j < 32) : bt ((2 : Int32) <<< (nI i &&& 31)) j = decide (j = i + 1) := by
  have h1 : ∀ i, i < 32 → bt (2 : Int32) i = decide (i = 1) := by decide +kernel
  rw [b_shl i (by omega) 2 hj, h1 (j - i) (by omega)]
  by_cases c : j = i + 1
  · subst c; simp
  · simp [c]; omega
theorem gb_not (x : Int32) {j : Nat} (hj : j < 32) : bt (x ^^^ (-1)) j = !bt x j := by
  rw [b_xor, b_m1 j hj]; simp
theorem gb_or0 (x : Int32) : x ||| 0 = x := by
  apply b_ext
  intro i _
  rw [b_or, b_0]; simp
theorem gb_0or (x : Int32) : 0 ||| x = x := by
  apply b_ext
  intro i _
  rw [b_or, b_0]; simp
theorem gb_zero {x : Int32} : x = 0 ↔ ∀ j, j < 32 → bt x j = false := by
  constructor
  · intro h j _; rw [h, b_0]
  · intro h
    apply b_ext
    intro i hi
    rw [h i hi, b_0]
theorem gb_nz {x : Int32} (h : ¬ x = 0) : ∃ j, j < 32 ∧ bt x j = true := by
  apply Classical.byContradiction
  intro hn
  exact h (gb_zero.mpr (fun j hj => ts_nt (fun c => hn ⟨j, hj, c⟩)))
theorem gb_news {x y : Int32} : (x &&& (y ^^^ (-1))) = 0 ↔ ∀ j, j < 32 → bt x j = true → bt y j = true := by
  rw [gb_zero]
  constructor
  · intro h j hj hx
    have h1 := h j hj
    rw [b_and, gb_not y hj, hx] at h1
    simpa using h1
  · intro h j hj
    rw [b_and, gb_not y hj]
    by_cases c : bt x j = true
    · rw [h j hj c]; simp
    · rw [ts_nt c]; simp
theorem gb_nnews {x y : Int32} (h : ¬ (x &&& (y ^^^ (-1))) = 0) : ∃ j, j < 32 ∧ bt x j = true ∧ bt y j = false := by
  obtain ⟨j, hj, c⟩ := gb_nz h
  rw [b_and, gb_not y hj] at c
  simp at c
  exact ⟨j, hj, c.1, c.2⟩
theorem gb_or_sub {x y : Int32} (h : ∀ j, j < 32 → bt x j = true → bt y j = true) : y ||| x = y := by
  apply b_ext
  intro i hi
  rw [b_or]
  by_cases c : bt x i = true
  · rw [h i hi c]; simp
  · rw [ts_nt c]; simp
theorem gb_upd_id {f : Nat → Int32} {k : Nat} {x : Int32} (h : x = f k) : upd f k x = f := by
  funext j
  show (if j = k then x else f j) = f j
  by_cases c : j = k
  · rw [if_pos c, c, h]
  · rw [if_neg c]
theorem gb_upd (f : Nat → Int32) (k : Nat) (x : Int32) (j : Nat) : upd f k x j = if j = k then x else f j := rfl

/-! small numbers: bytes, shorts, truths -/
theorem gb_nb {n : Nat} (h : n < 128) : vp_nar .byte (nI n).toInt8.toInt32 = nI n := by
  rw [pk_vb]
  exact (by decide +kernel : ∀ n, n < 128 → (nI n).toInt8.toInt32 = nI n) n h
theorem gb_nb' {n : Nat} (h : n < 128) : vp_nar .byte (nI n) = nI n := by
  rw [vp_nar_byte]
  exact (by decide +kernel : ∀ n, n < 128 → (nI n).toInt8.toInt32 = nI n) n h
theorem gb_ns {n : Nat} (h : n < 128) : vp_nar .short (nI n).toInt16.toInt32 = nI n := by
  rw [pk_vs]
  exact (by decide +kernel : ∀ n, n < 128 → (nI n).toInt16.toInt32 = nI n) n h
theorem gb_z1 : vp_nar .boolean 1 = 1 := by rfl
theorem gb_z0 : vp_nar .boolean 0 = 0 := by rfl
theorem gb_nar {r : Int32} (h : r = 0 ∨ r = 1) : narrow .boolean (.int r) = .int r := by
  rcases h with h | h <;> rw [h] <;> rfl
/-- r says whether C holds -/
def gs_tf (C : Prop) (r : Int32) : Prop := (r = 1 ∧ C) ∨ (r = 0 ∧ ¬ C)
theorem gs_tf1 {C : Prop} (h : C) : gs_tf C 1 := Or.inl ⟨rfl, h⟩
theorem gs_tf0 {C : Prop} (h : ¬ C) : gs_tf C 0 := Or.inr ⟨rfl, h⟩
theorem gs_tf01 {C : Prop} {r : Int32} (h : gs_tf C r) : r = 0 ∨ r = 1 := by
  rcases h with h | h
  · exact Or.inr h.1
  · exact Or.inl h.1
theorem gs_tf_iff {C D : Prop} (e : C ↔ D) {r : Int32} (h : gs_tf C r) : gs_tf D r := by
  rcases h with ⟨a, b⟩ | ⟨a, b⟩
  · exact Or.inl ⟨a, e.mp b⟩
  · exact Or.inr ⟨a, fun d => b (e.mpr d)⟩
theorem gs_tf_eq {C : Prop} {r r' : Int32} (h : gs_tf C r) (h' : gs_tf C r') : r' = r := by
  rcases h with ⟨a, b⟩ | ⟨a, b⟩ <;> rcases h' with ⟨a', b'⟩ | ⟨a', b'⟩
  · rw [a, a']
  · exact absurd b b'
  · exact absurd b' b
  · rw [a, a']
theorem gs_tf_nar {C : Prop} {r : Int32} (h : gs_tf C r) : narrow .boolean (.int r) = .int r := gb_nar (gs_tf01 h)
theorem gs_tf_br {C A B : Prop} {r : Int32} (h : gs_tf C r) (f : ¬ C → A) (g : C → B) : (r = 0 → A) ∧ (¬ r = 0 → B) := by
  rcases h with ⟨a, b⟩ | ⟨a, b⟩
  · exact ⟨fun z => absurd (a.symm.trans z) (by decide), fun _ => g b⟩
  · exact ⟨fun _ => f b, fun z => absurd a z⟩
theorem gb_10 : ¬ (1 : Int32) = 0 := by decide
/-! indices -/
theorem ix_3 (a b : Nat) : nI a * 3 + nI b = nI (a * 3 + b) := by
  rw [show (3 : Int32) = nI 3 from rfl, pk_mul, nI_add]
theorem ix_11 (a b : Nat) : nI a * 11 + nI b = nI (a * 11 + b) := by
  rw [show (11 : Int32) = nI 11 from rfl, pk_mul, nI_add]
theorem ix_64 (a b : Nat) : nI a * 64 + nI b = nI (a * 64 + b) := by
  rw [show (64 : Int32) = nI 64 from rfl, pk_mul, nI_add]
theorem ix_y (a b c : Nat) : 121 * nI a + 11 * nI b + nI c = nI (121 * a + 11 * b + c) := by
  rw [show (121 : Int32) = nI 121 from rfl, show (11 : Int32) = nI 11 from rfl, pk_mul, pk_mul, nI_add, nI_add]
theorem ix_m4 (a : Nat) : 4 * nI a = nI (4 * a) := by
  rw [show (4 : Int32) = nI 4 from rfl, pk_mul]
theorem ix_d4 {a : Nat} (h : a < 2 ^ 31) : nI a / 4 = nI (a / 4) := pk_div (d := 4) h (by decide) (by decide)
theorem ix_r4 {a : Nat} (h : a < 2 ^ 31) : nI a - nI a / 4 * 4 = nI (a % 4) := pk_rem (d := 4) h (by decide) (by decide)
theorem ix_40 : ¬ (4 : Int32) = 0 := by decide
/-! loops -/
/-- a loop that writes v i into each cell below M -/
theorem gl_fill (W : Nat → Int32 → (Nat → Int32) → Prop) (M : Nat) (v : Nat → Int32)
    (hx : ∀ n a, (∀ c, c < M → a c = v c) → W (n + 1) (nI M) a)
    (hs : ∀ n i a, i < M → W n (nI (i + 1)) (upd a i (v i)) → W (n + 1) (nI i) a) (a : Nat → Int32) : ∃ n, W n 0 a := by
  have key : ∀ d i a, i + d = M → (∀ c, c < i → a c = v c) → W (d + 1) (nI i) a := by
    intro d
    induction d with
    | zero =>
      intro i a hi hc
      have e : i = M := by omega
      subst e
      exact hx 0 a hc
    | succ d ih =>
      intro i a hi hc
      refine hs (d + 1) i a (by omega) (ih (i + 1) _ (by omega) ?_)
      intro c hc1
      by_cases e : c = i
      · rw [e, pk_us]
      · rw [pk_un e]; exact hc c (by omega)
  exact ⟨M + 1, key M 0 a (by omega) (fun c hc => absurd hc (by omega))⟩
/-- a counted loop from i0 to e (e not reached), with an invariant over what it changes -/
theorem gl_for {σ : Type} (W : Nat → Nat → σ → Prop) (I : Nat → σ → Prop) (e : Nat)
    (hx : ∀ n s, I e s → W (n + 1) e s)
    (hs : ∀ n i s, i < e → I i s → (∀ s', I (i + 1) s' → W n (i + 1) s') → W (n + 1) i s) :
    ∀ d i s, i + d = e → I i s → ∀ n, d < n → W n i s := by
  intro d
  induction d with
  | zero =>
    intro i s hi h n hn
    have e1 : i = e := by omega
    subst e1
    obtain ⟨m, rfl⟩ : ∃ m, n = m + 1 := ⟨n - 1, by omega⟩
    exact hx m s h
  | succ d ih =>
    intro i s hi h n hn
    obtain ⟨m, rfl⟩ : ∃ m, n = m + 1 := ⟨n - 1, by omega⟩
    exact hs m i s (by omega) h (fun s' h' => ih (i + 1) s' (by omega) h' m (by omega))
theorem gl_ex {σ : Type} (W : Nat → Nat → σ → Prop) (I : Nat → σ → Prop) (e i : Nat) (s : σ) (hi : i ≤ e) (h : I i s)
    (hx : ∀ n s, I e s → W (n + 1) e s)
    (hs : ∀ n i s, i < e → I i s → (∀ s', I (i + 1) s' → W n (i + 1) s') → W (n + 1) i s) : ∃ n, W n i s :=
  ⟨e - i + 1, gl_for W I e hx hs (e - i) i s (by omega) h _ (by omega)⟩
end
section
/-! the reference: covers, fits, tryRule, grow -/
def gy_R (g : gs_G) (b_there b_kinds b_lengths b_parts : Nat → Int32) : Prop :=
  (∀ r, r < 16 → b_there r = if gs_H g r = true then 1 else 0) ∧ (∀ r, r < 16 → b_kinds r = nI (gs_K g r)) ∧ (∀ r, r < 16 → b_lengths r = nI (gs_L g r)) ∧
  (∀ r d, r < 16 → d < 3 → ((b_parts r >>> ((3 * nI d) &&& 31)) &&& 7) = nI (gs_S g r d))
def gy_w (g : gs_G) (b_list : Nat → Int32) : Prop := ∀ i, i < gs_N g → b_list i = nI (gs_W g i)
def gy_M (g : gs_G) (b : Nat → Int32) (k i j : Nat) : Prop := k < 5 ∧ i ≤ j ∧ j ≤ gs_N g ∧ b (121 * k + 11 * i + j) = 1
def gy_01 (b : Nat → Int32) : Prop := ∀ c, c < 605 → b c = 0 ∨ b c = 1
theorem gy_M_rng {g : gs_G} {b : Nat → Int32} (k i j : Nat) (h : gy_M g b k i j) : i ≤ j ∧ j ≤ gs_N g := ⟨h.2.1, h.2.2.1⟩
theorem gs_S8 {g : gs_G} (ok : gs_ok g) {r d : Nat} (hr : r < 16) (hd : d < 3) : gs_S g r d < 8 := ok.2.2.1 r d hr hd
theorem gs_N10 {g : gs_G} (ok : gs_ok g) : gs_N g ≤ 10 := ok.2.2.2.2
theorem gs_L3 {g : gs_G} (ok : gs_ok g) {r : Nat} (hr : r < 16) : gs_L g r ≤ 3 := ok.2.1 r hr
theorem gs_K5 {g : gs_G} (ok : gs_ok g) {r : Nat} (hr : r < 16) : gs_K g r < 5 := ok.1 r hr
theorem gs_W3 {g : gs_G} (ok : gs_ok g) {i : Nat} (hi : i < gs_N g) : gs_W g i < 3 := ok.2.2.2.1 i hi

section
variable {g : gs_G} {h_size h_many h_grown : Int32} {b_there b_kinds b_lengths b_parts b_word b_list b_made b_least : Nat → Int32}
theorem gy_sym (R : gy_R g b_there b_kinds b_lengths b_parts) {r d : Nat} (hr : r < 16) (hd : d < 3) {post : Int32 → Prop} (h : post (nI (gs_S g r d))) : wpY_symbol post (h_size, h_many, h_grown, b_there, b_kinds, b_lengths, b_parts, b_word, b_list, b_made, b_least) (nI r) (nI d) := by
  refine And.intro (vp_in_nI hr (by decide)) ?_
  rw [nI_clamp (by omega), R.2.2.2 r d hr hd]
  exact h
theorem gy_cov (ok : gs_ok g) (w : gy_w g b_list) (hm : gy_01 b_made) {s i j : Nat} (hs : s < 8) (hij : i ≤ j) (hj : j ≤ gs_N g) {post : Int32 → Prop} (h : ∀ r, gs_tf (gs_cov g (gy_M g b_made) s i j) r → post r) : wpY_covers post (h_size, h_many, h_grown, b_there, b_kinds, b_lengths, b_parts, b_word, b_list, b_made, b_least) (nI s) (nI i) (nI j) := by
  have hN := gs_N10 ok
  refine pk_le 5 s (fun h5 => ?_) (fun h5 => ?_)
  · refine pk_eq j (i + 1) (fun e => And.intro (vp_in_nI (by omega) (by decide)) ?_) (fun e => h 0 (gs_tf0 ?_)) rfl (nI_1 i)
    · have hw := gs_W3 ok (show i < gs_N g by omega)
      rw [nI_clamp (by omega), w i (by omega)]
      refine pk_eq (gs_W g i) (s - 5) (fun e2 => h 1 (gs_tf1 (Or.inr ⟨h5, e, by omega, by omega⟩))) (fun e2 => h 0 (gs_tf0 ?_)) rfl (pk_sub (b := 5) h5)
      rintro (⟨a, _⟩ | ⟨_, _, _, a⟩)
      · omega
      · omega
    · rintro (⟨a, _⟩ | ⟨_, a, _⟩)
      · omega
      · exact e a
  · have hc : 121 * s + 11 * i + j < 605 := by omega
    have e := ix_y s i j
    have ec : (121 * nI s + 11 * nI i + nI j).toNatClampNeg = 121 * s + 11 * i + j := by rw [e]; exact nI_clamp (by omega)
    refine And.intro (by rw [e]; exact vp_in_nI hc (by decide)) ?_
    rw [ec]
    refine And.intro (gb_nar (hm _ hc)) (h _ ?_)
    rcases hm _ hc with z | z
    · rw [z]
      refine gs_tf0 ?_
      rintro (⟨_, a⟩ | ⟨a, _⟩)
      · have := a.2.2.2
        rw [z] at this
        exact absurd this (by decide)
      · omega
    · rw [z]
      exact gs_tf1 (Or.inl ⟨h5, h5, hij, hj, z⟩)

def gy_in2 (g : gs_G) (D : Nat → Nat → Nat → Prop) (r a j b : Nat) : Prop :=
  ∃ m, b ≤ m ∧ m ≤ j ∧ gs_cov g D (gs_S g r 1) a m ∧ ((gs_L g r = 2 ∧ m = j) ∨ (gs_L g r ≠ 2 ∧ gs_cov g D (gs_S g r 2) m j))
def gy_in1 (g : gs_G) (D : Nat → Nat → Nat → Prop) (r i j a : Nat) : Prop :=
  ∃ m, a ≤ m ∧ m ≤ j ∧ gs_cov g D (gs_S g r 0) i m ∧ gy_in2 g D r m j m
theorem gy_f94_1 {post : Int32 → Prop} {J57 : Int32 → Int32 → Prop} {x1 x2 x4 : Int32} {j a b n : Nat} (hj : j < 100) (hb : b < 100) (h : J57 1 (nI (a + 1))) :
    wY_fits_94 post J57 x1 x2 (nI j) x4 (nI a) h_size h_many h_grown b_there b_kinds b_lengths b_parts b_word b_list b_made b_least (n + 1) 1 (nI b) :=
  pk_lt j b (fun _ => nm_r (nI_1 a) h) (fun _ => br_f gb_10 (nm_r (nI_1 a) h))
theorem gy_f94 (ok : gs_ok g) (R : gy_R g b_there b_kinds b_lengths b_parts) (w : gy_w g b_list) (hm : gy_01 b_made)
    {post : Int32 → Prop} {J57 : Int32 → Int32 → Prop} {x2 : Int32} {r j a : Nat} (hr : r < 16) (hj : j ≤ gs_N g) :
    ∀ d b, b + d = j + 1 → a ≤ b → (∀ z, gs_tf (gy_in2 g (gy_M g b_made) r a j b) z → J57 z (nI (a + 1))) → ∀ n, d < n →
      wY_fits_94 post J57 (nI r) x2 (nI j) (nI (gs_L g r)) (nI a) h_size h_many h_grown b_there b_kinds b_lengths b_parts b_word b_list b_made b_least n 0 (nI b) := by
  have hN := gs_N10 ok
  have hL := gs_L3 ok hr
  intro d
  induction d with
  | zero =>
    intro b hb hab hJ n hn
    obtain ⟨m, rfl⟩ : ∃ m, n = m + 1 := ⟨n - 1, by omega⟩
    refine br_t (nI_lt (by omega) (by omega)) (nm_r (nI_1 a) (hJ 0 (gs_tf0 ?_)))
    rintro ⟨x, h1, h2, _⟩
    omega
  | succ d ih =>
    intro b hb hab hJ n hn
    obtain ⟨m, rfl⟩ : ∃ m, n = m + 1 := ⟨n - 1, by omega⟩
    -- go on: nothing found at b
    have go : (¬ (gs_cov g (gy_M g b_made) (gs_S g r 1) a b ∧ ((gs_L g r = 2 ∧ b = j) ∨ (gs_L g r ≠ 2 ∧ gs_cov g (gy_M g b_made) (gs_S g r 2) b j)))) →
        wY_fits_94 post J57 (nI r) x2 (nI j) (nI (gs_L g r)) (nI a) h_size h_many h_grown b_there b_kinds b_lengths b_parts b_word b_list b_made b_least m 0 (nI (b + 1)) := by
      intro hno
      refine ih (b + 1) (by omega) (by omega) (fun z hz => hJ z (gs_tf_iff ⟨?_, ?_⟩ hz)) m (by omega)
      · rintro ⟨x, h1, h2⟩
        exact ⟨x, by omega, h2⟩
      · rintro ⟨x, h1, h2, h3⟩
        by_cases e : x = b
        · subst e; exact absurd h3 hno
        · exact ⟨x, by omega, h2, h3⟩
    have stop : (gs_cov g (gy_M g b_made) (gs_S g r 1) a b ∧ ((gs_L g r = 2 ∧ b = j) ∨ (gs_L g r ≠ 2 ∧ gs_cov g (gy_M g b_made) (gs_S g r 2) b j))) →
        wY_fits_94 post J57 (nI r) x2 (nI j) (nI (gs_L g r)) (nI a) h_size h_many h_grown b_there b_kinds b_lengths b_parts b_word b_list b_made b_least m 1 (nI (b + 1)) := by
      intro hyes
      obtain ⟨k, rfl⟩ : ∃ k, m = k + 1 := ⟨m - 1, by omega⟩
      exact gy_f94_1 (by omega) (by omega) (hJ 1 (gs_tf1 ⟨b, Nat.le_refl b, by omega, hyes⟩))
    refine br_f (nI_nlt (by omega) (by omega)) (br_t rfl ?_)
    refine gy_sym (d := 1) R hr (by decide) ?_
    refine gy_cov ok w hm (gs_S8 ok hr (by decide)) (by omega) (by omega) (fun z hz => gs_tf_br hz (fun no => nm_r (nI_1 b) (go (fun c => no c.1))) (fun yes => ?_))
    refine pk_eq (gs_L g r) 2 (fun e2 => ?_) (fun e2 => ?_)
    · exact pk_eq b j (fun e => nm_r (nI_1 b) (stop ⟨yes, Or.inl ⟨e2, e⟩⟩)) (fun e => nm_r (nI_1 b) (go (fun c => by
        rcases c.2 with c | c
        · exact e c.2
        · exact c.1 e2)))
    · refine gy_sym (d := 2) R hr (by decide) ?_
      refine gy_cov ok w hm (gs_S8 ok hr (by decide)) (by omega) (by omega) (fun z hz => gs_tf_br hz (fun no => nm_r (nI_1 b) (go (fun c => ?_))) (fun y2 => nm_r (nI_1 b) (stop ⟨yes, Or.inr ⟨e2, y2⟩⟩)))
      rcases c.2 with c | c
      · exact e2 c.1
      · exact no c.2
theorem gy_f57_s {post : Int32 → Prop} {x1 x2 z : Int32} {l j a n : Nat} (hl : l ≤ 3) (hj : j < 100) (ha : a < 100) (hz : z = 0 ∨ z = 1) (hs : l < 2 ∨ z = 1) (h : post z) :
    wY_fits_57 post x1 x2 (nI j) (nI l) h_size h_many h_grown b_there b_kinds b_lengths b_parts b_word b_list b_made b_least (n + 1) z (nI a) := by
  refine pk_lt j a (fun _ => And.intro (gb_nar hz) h) (fun _ => ?_)
  refine pk_lt l 2 (fun _ => And.intro (gb_nar hz) h) (fun h2 => ?_)
  refine br_f ?_ (And.intro (gb_nar hz) h)
  rcases hs with hs | hs
  · omega
  · rw [hs]; decide
theorem gy_f57 (ok : gs_ok g) (R : gy_R g b_there b_kinds b_lengths b_parts) (w : gy_w g b_list) (hm : gy_01 b_made)
    {post : Int32 → Prop} {r i j : Nat} (hr : r < 16) (hj : j ≤ gs_N g) (hL2 : 2 ≤ gs_L g r) :
    ∀ d a, a + d = j + 1 → i ≤ a → (∀ z, gs_tf (gy_in1 g (gy_M g b_made) r i j a) z → post z) → ∀ n, d < n →
      wY_fits_57 post (nI r) (nI i) (nI j) (nI (gs_L g r)) h_size h_many h_grown b_there b_kinds b_lengths b_parts b_word b_list b_made b_least n 0 (nI a) := by
  have hN := gs_N10 ok
  have hL := gs_L3 ok hr
  intro d
  induction d with
  | zero =>
    intro a ha hia hJ n hn
    obtain ⟨m, rfl⟩ : ∃ m, n = m + 1 := ⟨n - 1, by omega⟩
    refine br_t (nI_lt (by omega) (by omega)) (And.intro (gb_nar (Or.inl rfl)) (hJ 0 (gs_tf0 ?_)))
    rintro ⟨x, h1, h2, _⟩
    omega
  | succ d ih =>
    intro a ha hia hJ n hn
    obtain ⟨m, rfl⟩ : ∃ m, n = m + 1 := ⟨n - 1, by omega⟩
    have go : (¬ (gs_cov g (gy_M g b_made) (gs_S g r 0) i a ∧ gy_in2 g (gy_M g b_made) r a j a)) →
        wY_fits_57 post (nI r) (nI i) (nI j) (nI (gs_L g r)) h_size h_many h_grown b_there b_kinds b_lengths b_parts b_word b_list b_made b_least m 0 (nI (a + 1)) := by
      intro hno
      refine ih (a + 1) (by omega) (by omega) (fun z hz => hJ z (gs_tf_iff ⟨?_, ?_⟩ hz)) m (by omega)
      · rintro ⟨x, h1, h2⟩
        exact ⟨x, by omega, h2⟩
      · rintro ⟨x, h1, h2, h3⟩
        by_cases e : x = a
        · subst e; exact absurd h3 hno
        · exact ⟨x, by omega, h2, h3⟩
    refine br_f (nI_nlt (by omega) (by omega)) (br_f (nI_nlt (b := 2) (by omega) (by omega)) (br_t rfl ?_))
    refine gy_sym (d := 0) R hr (by decide) ?_
    refine gy_cov ok w hm (gs_S8 ok hr (by decide)) (by omega) (by omega) (fun z hz => gs_tf_br hz (fun no => nm_r (nI_1 a) (go (fun c => no c.1))) (fun yes => ?_))
    refine ⟨j + 3, gy_f94 ok R w hm hr hj (j + 1 - a) a (by omega) (Nat.le_refl a) (fun z hz => ?_) _ (by omega)⟩
    rcases hz with ⟨e, hz⟩ | ⟨e, hz⟩
    · rw [e]
      obtain ⟨k, rfl⟩ : ∃ k, m = k + 1 := ⟨m - 1, by omega⟩
      exact gy_f57_s hL (by omega) (by omega) (Or.inr rfl) (Or.inr rfl) (hJ 1 (gs_tf1 ⟨a, Nat.le_refl a, by omega, yes, hz⟩))
    · rw [e]
      exact go (fun c => hz c.2)
theorem gy_pre_in1 {D : Nat → Nat → Nat → Prop} (hD : ∀ k i j, D k i j → i ≤ j ∧ j ≤ gs_N g) {r i j : Nat} (hL : gs_L g r ≤ 3) (hL2 : 2 ≤ gs_L g r) :
    gy_in1 g D r i j i ↔ gs_pre g D r i (gs_L g r) j := by
  constructor
  · rintro ⟨a, h1, h2, h3, m, h4, h5, h6, h7⟩
    rcases h7 with ⟨h7, h8⟩ | ⟨h7, h8⟩
    · rw [h7]
      subst h8
      exact ⟨a, ⟨i, rfl, h3⟩, h6⟩
    · rw [show gs_L g r = 3 by omega]
      exact ⟨m, ⟨a, ⟨i, rfl, h3⟩, h6⟩, h8⟩
  · intro h
    by_cases e : gs_L g r = 2
    · rw [e] at h
      obtain ⟨a, ⟨i', h0, h3⟩, h6⟩ := h
      have h0' : i' = i := h0
      subst h0'
      have r1 := gs_cov_rng hD h3
      have r2 := gs_cov_rng hD h6
      exact ⟨a, r1.1, r2.1, h3, j, r2.1, Nat.le_refl j, h6, Or.inl ⟨e, rfl⟩⟩
    · rw [show gs_L g r = 3 by omega] at h
      obtain ⟨m, ⟨a, ⟨i', h0, h3⟩, h6⟩, h8⟩ := h
      have h0' : i' = i := h0
      subst h0'
      have r1 := gs_cov_rng hD h3
      have r2 := gs_cov_rng hD h6
      have r3 := gs_cov_rng hD h8
      exact ⟨a, r1.1, by omega, h3, m, r2.1, r3.1, h6, Or.inr ⟨e, h8⟩⟩
theorem gy_fits (ok : gs_ok g) (R : gy_R g b_there b_kinds b_lengths b_parts) (w : gy_w g b_list) (hm : gy_01 b_made)
    {post : Int32 → Prop} {r i j : Nat} (hr : r < 16) (hij : i ≤ j) (hj : j ≤ gs_N g)
    (h : ∀ z, gs_tf (gs_pre g (gy_M g b_made) r i (gs_L g r) j) z → post z) : wpY_fits post (h_size, h_many, h_grown, b_there, b_kinds, b_lengths, b_parts, b_word, b_list, b_made, b_least) (nI r) (nI i) (nI j) := by
  have hN := gs_N10 ok
  have hL := gs_L3 ok hr
  refine And.intro (vp_in_nI hr (by decide)) ?_
  refine nm_r (e' := nI (gs_L g r)) (by rw [nI_clamp (by omega)]; exact R.2.2.1 r hr) ?_
  refine pk_eq (gs_L g r) 0 (fun e0 => ?_) (fun e0 => ?_)
  · refine pk_eq i j (fun e => ⟨1, gy_f57_s hL (by omega) (by omega) (Or.inr rfl) (Or.inr rfl) (h 1 (gs_tf1 ?_))⟩) (fun e => ⟨1, gy_f57_s hL (by omega) (by omega) (Or.inl rfl) (Or.inl (by omega)) (h 0 (gs_tf0 ?_))⟩)
    · rw [e0]; exact e.symm
    · rw [e0]; intro c; exact e (Eq.symm c)
  · refine pk_eq (gs_L g r) 1 (fun e1 => ?_) (fun e1 => ?_)
    · refine gy_sym (d := 0) R hr (by decide) ?_
      refine gy_cov ok w hm (gs_S8 ok hr (by decide)) hij hj (fun z hz => gs_tf_br hz (fun no => ⟨1, gy_f57_s hL (by omega) (by omega) (Or.inl rfl) (Or.inl (by omega)) (h 0 (gs_tf0 ?_))⟩) (fun yes => ⟨1, gy_f57_s hL (by omega) (by omega) (Or.inr rfl) (Or.inr rfl) (h 1 (gs_tf1 ?_))⟩))
      · rw [e1]
        rintro ⟨m, h0, h1⟩
        have h0' : m = i := h0
        subst h0'
        exact no h1
      · rw [e1]; exact ⟨i, rfl, yes⟩
    · refine ⟨j + 3, gy_f57 ok R w hm hr hj (by omega) (j + 1 - i) i (by omega) (Nat.le_refl i) (fun z hz => h z (gs_tf_iff (gy_pre_in1 gy_M_rng hL (by omega)) hz)) _ (by omega)⟩
end
end
section
/-! the reference: tryRule, grow, read -/
/-- from (b0, h0) the rounds have come to (b, h): nothing is new and P holds, or something is new -/
def gy_ext (g : gs_G) (b0 : Nat → Int32) (h0 : Int32) (P : Prop) (h : Int32) (b : Nat → Int32) : Prop :=
  gy_01 b ∧ (∀ k i j, gy_M g b k i j → gs_Der g k i j) ∧ (∀ c, b0 c = 1 → b c = 1) ∧ ((h = h0 ∧ b = b0 ∧ P) ∨ (h = 1 ∧ ∃ c, c < 605 ∧ b0 c = 0 ∧ b c = 1))
theorem gy_ext_P {g : gs_G} {b0 b : Nat → Int32} {h0 h : Int32} {P Q : Prop} (e : P → Q) (x : gy_ext g b0 h0 P h b) : gy_ext g b0 h0 Q h b :=
  ⟨x.1, x.2.1, x.2.2.1, x.2.2.2.imp (fun c => ⟨c.1, c.2.1, e c.2.2⟩) (fun c => c)⟩
theorem gy_ext_new {g : gs_G} {b0 b : Nat → Int32} {h0 h : Int32} {P : Prop} (x : gy_ext g b0 h0 P h b) (h01 : gy_01 b0) {k i j : Nat} (hk : k < 5) (hij : i ≤ j) (hj : j ≤ gs_N g) (hN : gs_N g ≤ 10)
    (z : b (121 * k + 11 * i + j) = 0) (hd : gs_Der g k i j) (Q : Prop) : gy_ext g b0 h0 Q 1 (upd b (121 * k + 11 * i + j) 1) := by
  have hc : 121 * k + 11 * i + j < 605 := by omega
  refine ⟨?_, ?_, ?_, Or.inr ⟨rfl, 121 * k + 11 * i + j, hc, ?_, pk_us⟩⟩
  · intro c hc1
    by_cases e : c = 121 * k + 11 * i + j
    · rw [e, pk_us]; exact Or.inr rfl
    · rw [pk_un e]; exact x.1 c hc1
  · rintro k' i' j' ⟨a1, a2, a3, a4⟩
    by_cases e : 121 * k' + 11 * i' + j' = 121 * k + 11 * i + j
    · have e1 : k' = k := by omega
      have e2 : i' = i := by omega
      have e3 : j' = j := by omega
      rw [e1, e2, e3]; exact hd
    · rw [pk_un e] at a4
      exact x.2.1 _ _ _ ⟨a1, a2, a3, a4⟩
  · intro c hc1
    by_cases e : c = 121 * k + 11 * i + j
    · rw [e, pk_us]
    · rw [pk_un e]; exact x.2.2.1 c hc1
  · rcases h01 _ hc with a | a
    · exact a
    · have := x.2.2.1 _ a
      rw [z] at this
      exact absurd this (by decide)
def gy_P (g : gs_G) (b0 : Nat → Int32) (r i j : Nat) : Prop :=
  ∀ i' j', (i' < i ∨ (i' = i ∧ j' < j)) → i' ≤ gs_N g → gs_pre g (gy_M g b0) r i' (gs_L g r) j' → gy_M g b0 (gs_K g r) i' j'
section
variable {g : gs_G} {h_size h_many h_grown : Int32} {b_there b_kinds b_lengths b_parts b_word b_list b_made b_least : Nat → Int32}
theorem gy_t12 (ok : gs_ok g) (R : gy_R g b_there b_kinds b_lengths b_parts) (w : gy_w g b_list) {b0 : Nat → Int32} {h0 : Int32} (h01 : gy_01 b0) {P : Prop}
    {post : SY → Prop} {J2 : Int32 → Int32 → (Nat → Int32) → (Nat → Int32) → (Nat → Int32) → (Nat → Int32) → (Nat → Int32) → (Nat → Int32) → (Nat → Int32) → (Nat → Int32) → Prop} {r i : Nat} (hr : r < 16) (hH : gs_H g r = true) (hi : i ≤ gs_N g)
    (hJ : ∀ h b, gy_ext g b0 h0 (P ∧ gy_P g b0 r (i + 1) 0) h b → J2 (nI (i + 1)) h b_there b_kinds b_lengths b_parts b_word b_list b b_least)
    (x : gy_ext g b0 h0 (P ∧ gy_P g b0 r i 0) h_grown b_made) :
    ∃ n, wY_tryRule_12 post J2 (nI r) (nI i) h_size (nI (gs_N g)) n (nI i) h_grown b_there b_kinds b_lengths b_parts b_word b_list b_made b_least := by
  have hN := gs_N10 ok
  have hK := gs_K5 ok hr
  refine gl_ex (fun n j (s : Int32 × (Nat → Int32)) => wY_tryRule_12 post J2 (nI r) (nI i) h_size (nI (gs_N g)) n (nI j) s.1 b_there b_kinds b_lengths b_parts b_word b_list s.2 b_least)
    (fun j s => i ≤ j ∧ gy_ext g b0 h0 (P ∧ gy_P g b0 r i j) s.1 s.2) (gs_N g + 1) i (h_grown, b_made) (by omega) ?_ ?_ ?_
  · refine ⟨Nat.le_refl i, gy_ext_P (fun p => ⟨p.1, fun i' j' hc hi' hp => ?_⟩) x⟩
    rcases hc with hc | ⟨hc, hc2⟩
    · exact p.2 i' j' (Or.inl hc) hi' hp
    · have := gs_pre_rng gy_M_rng hi' hp
      omega
  · rintro n ⟨h, b⟩ ⟨_, y⟩
    refine br_t (nI_lt (by omega) (by omega)) (nm_r (nI_1 i) (hJ h b (gy_ext_P (fun p => ⟨p.1, fun i' j' hc hi' hp => ?_⟩) y)))
    refine p.2 i' j' ?_ hi' hp
    have := gs_pre_rng gy_M_rng hi' hp
    omega
  · rintro n j ⟨h, b⟩ hj ⟨hij, y⟩ go
    refine br_f (nI_nlt (by omega) (by omega)) (And.intro (vp_in_nI hr (by decide)) ?_)
    refine nm_r (e' := nI (121 * gs_K g r + 11 * i + j)) (by rw [nI_clamp (by omega), R.2.1 r hr, ix_y]) ?_
    refine And.intro (vp_in_nI (by omega) (by decide)) ?_
    rw [nI_clamp (by omega)]
    have y1 : gy_01 b := y.1
    have ext1 : (gs_pre g (gy_M g b) r i (gs_L g r) j → gy_M g b (gs_K g r) i j) → gy_ext g b0 h0 (P ∧ gy_P g b0 r i (j + 1)) h b := by
      intro hcl
      refine ⟨y.1, y.2.1, y.2.2.1, ?_⟩
      rcases y.2.2.2 with ⟨e1, e2, p⟩ | c
      · refine Or.inl ⟨e1, e2, p.1, ?_⟩
        intro i' j' hc hi' hp
        by_cases e : i' = i ∧ j' = j
        · rw [e.1, e.2] at hp ⊢
          have e2' : b = b0 := e2
          rw [e2'] at hcl
          exact hcl hp
        · exact p.2 i' j' (by omega) hi' hp
      · exact Or.inr c
    refine br_c (fun z => ?_) (fun z => ?_)
    · refine gy_fits (b_made := b) ok R w y1 hr hij (by omega) (fun q hq => gs_tf_br hq (fun no => ?_) (fun yes => ?_))
      · exact nm_r (nI_1 j) (go (h, b) ⟨by omega, ext1 (fun c => absurd c no)⟩)
      · refine And.intro (vp_in_nI (by omega) (by decide)) ?_
        rw [gb_z1]
        refine nm_e (nm_r (nI_1 j) (go (1, _) ⟨by omega, ?_⟩))
        exact gy_ext_new y h01 hK hij (by omega) hN z (gs_Der_cl g r hr hH i j hi (gs_pre_mono y.2.1 yes)) _
    · refine nm_r (nI_1 j) (go (h, b) ⟨by omega, ext1 (fun hp => ?_)⟩)
      have rg := gs_pre_rng gy_M_rng hi hp
      rcases y1 (121 * gs_K g r + 11 * i + j) (by omega) with a | a
      · exact absurd a z
      · exact ⟨hK, rg.1, rg.2, a⟩
theorem gy_try (ok : gs_ok g) (R : gy_R g b_there b_kinds b_lengths b_parts) (w : gy_w g b_list) {b0 : Nat → Int32} {h0 : Int32} (h01 : gy_01 b0) {P : Prop}
    {post : SY → Prop} {r : Nat} (hr : r < 16) (hH : gs_H g r = true) (hm : h_many = nI (gs_N g))
    (hp : ∀ h b, gy_ext g b0 h0 (P ∧ gs_rcl g (gy_M g b0) r) h b → post (h_size, h_many, h, b_there, b_kinds, b_lengths, b_parts, b_word, b_list, b, b_least))
    (x : gy_ext g b0 h0 P h_grown b_made) : wpY_tryRule post (h_size, h_many, h_grown, b_there, b_kinds, b_lengths, b_parts, b_word, b_list, b_made, b_least) (nI r) := by
  have hN := gs_N10 ok
  subst hm
  -- what was known before (P) is carried behind a truth of its own
  have hp' : ∀ h b, gy_ext g b0 h0 (P ∧ gy_P g b0 r (gs_N g + 1) 0) h b → post (h_size, (nI (gs_N g)), h, b_there, b_kinds, b_lengths, b_parts, b_word, b_list, b, b_least) := fun h b y =>
    hp h b (gy_ext_P (fun q => ⟨q.1, fun i j hi hpp => q.2 i j (Or.inl (by omega)) hi hpp⟩) y)
  refine gl_ex (fun n i (s : Int32 × (Nat → Int32)) => wY_tryRule_2 post (nI r) h_size (nI (gs_N g)) n (nI i) s.1 b_there b_kinds b_lengths b_parts b_word b_list s.2 b_least)
    (fun i s => gy_ext g b0 h0 (P ∧ gy_P g b0 r i 0) s.1 s.2) (gs_N g + 1) 0 (h_grown, b_made) (by omega) ?_ ?_ ?_
  · refine gy_ext_P (fun p => ⟨p, fun i' j' hc => ?_⟩) x
    omega
  · rintro n ⟨h, b⟩ y
    exact br_t (nI_lt (by omega) (by omega)) (hp' h b y)
  · rintro n i ⟨h, b⟩ hi y go
    refine br_f (nI_nlt (by omega) (by omega)) ?_
    exact gy_t12 (h_grown := h) (b_made := b) ok R w h01 hr hH (by omega) (fun h' b' y' => go (h', b') y') y
/-- what the table says: the derived stretches -/
def gy_T (g : gs_G) (b : Nat → Int32) : Prop := gy_01 b ∧ ∀ k i j, k < 5 → i ≤ j → j ≤ gs_N g → (b (121 * k + 11 * i + j) = 1 ↔ gs_Der g k i j)
theorem gy_round (ok : gs_ok g) (R : gy_R g b_there b_kinds b_lengths b_parts) (w : gy_w g b_list) (h01 : gy_01 b_made) (hs : ∀ k i j, gy_M g b_made k i j → gs_Der g k i j)
    {post : SY → Prop} {J27 : Int32 → Int32 → Int32 → (Nat → Int32) → (Nat → Int32) → (Nat → Int32) → (Nat → Int32) → (Nat → Int32) → (Nat → Int32) → (Nat → Int32) → (Nat → Int32) → Prop} (hm : h_many = nI (gs_N g))
    (hJ : ∀ h b, gy_ext g b_made 0 (gs_cl g (gy_M g b_made)) h b → J27 h_size h_many h b_there b_kinds b_lengths b_parts b_word b_list b b_least) :
    ∃ n, wY_grow_41 post J27 n 0 h_size h_many 0 b_there b_kinds b_lengths b_parts b_word b_list b_made b_least := by
  refine gl_ex (fun n r (s : Int32 × (Nat → Int32)) => wY_grow_41 post J27 n (nI r) h_size h_many s.1 b_there b_kinds b_lengths b_parts b_word b_list s.2 b_least)
    (fun r s => gy_ext g b_made 0 (∀ r', r' < r → gs_H g r' = true → gs_rcl g (gy_M g b_made) r') s.1 s.2) 16 0 (0, b_made) (by omega) ?_ ?_ ?_
  · exact ⟨h01, hs, fun c hc => hc, Or.inl ⟨rfl, rfl, fun r' h => absurd h (by omega)⟩⟩
  · rintro n ⟨h, b⟩ y
    exact br_t (nI_le (a := 16) (by omega) (by omega)) (hJ h b y)
  · rintro n r ⟨h, b⟩ hr y go
    refine br_f (nI_ge (b := 16) (by omega) (by omega)) (And.intro (vp_in_nI hr (by decide)) ?_)
    rw [nI_clamp (by omega), R.1 r hr]
    by_cases c : gs_H g r = true
    · rw [if_pos c]
      refine br_f gb_10 ?_
      refine gy_try (h_grown := h) (b_made := b) ok R w h01 hr c hm (fun h' b' y' => nm_r (nI_1 r) (go (h', b') ?_)) y
      refine gy_ext_P (fun q r' hr' hh => ?_) y'
      by_cases e : r' = r
      · rw [e]; exact q.2
      · exact q.1 r' (by omega) hh
    · rw [if_neg c]
      refine br_t rfl (nm_r (nI_1 r) (go (h, b) ?_))
      refine gy_ext_P (fun q r' hr' hh => ?_) y
      by_cases e : r' = r
      · rw [e] at hh; exact absurd hh c
      · exact q r' (by omega) hh
theorem gy_while (ok : gs_ok g) (R : gy_R g b_there b_kinds b_lengths b_parts) (w : gy_w g b_list)
    {post : SY → Prop} (hm : h_many = nI (gs_N g)) (hp : ∀ b, gy_T g b → post (h_size, h_many, 0, b_there, b_kinds, b_lengths, b_parts, b_word, b_list, b, b_least)) :
    ∀ d h b, gy_01 b → (∀ k i j, gy_M g b k i j → gs_Der g k i j) → (h = 0 → gs_cl g (gy_M g b)) → (605 - gs_cn (fun c => decide (b c = 1)) 605) < d →
      ∀ n, d < n → wY_grow_27 post n h_size h_many h b_there b_kinds b_lengths b_parts b_word b_list b b_least := by
  intro d
  induction d with
  | zero => intro h b _ _ _ hd; omega
  | succ d ih =>
    intro h b h01 hs hc hd n hn
    obtain ⟨m, rfl⟩ : ∃ m, n = m + 1 := ⟨n - 1, by omega⟩
    refine br_c (fun z => ?_) (fun z => ?_)
    · rw [z]
      refine hp b ⟨h01, fun k i j hk hij hj => ?_⟩
      have h1 := gs_Der_iff hs (hc z) k i j
      exact ⟨fun e => h1.mp ⟨hk, hij, hj, e⟩, fun e => (h1.mpr e).2.2.2⟩
    · refine gy_round (b_made := b) ok R w h01 hs hm (fun h' b' y => ?_)
      rcases y.2.2.2 with ⟨e1, e2, e3⟩ | ⟨e1, c, hc1, hc2, hc3⟩
      · -- nothing new: the next head ends
        rw [e1, e2]
        obtain ⟨k, rfl⟩ : ∃ k, m = k + 1 := ⟨m - 1, by omega⟩
        refine br_t rfl (hp b ⟨h01, fun k i j hk hij hj => ?_⟩)
        have h1 := gs_Der_iff hs e3 k i j
        exact ⟨fun e => h1.mp ⟨hk, hij, hj, e⟩, fun e => (h1.mpr e).2.2.2⟩
      · refine ih h' b' y.1 y.2.1 (fun e => absurd (e1.symm.trans e) (by decide)) ?_ m (by omega)
        have h1 := gs_cn_lt (f := fun c => decide (b c = 1)) (h := fun c => decide (b' c = 1)) 605 (fun t _ ht => by
          simp only [decide_eq_true_eq] at ht ⊢
          exact y.2.2.1 t ht) c hc1 (by simp only [decide_eq_false_iff_not]; rw [hc2]; decide) (by simp only [decide_eq_true_eq]; exact hc3)
        have h2 := gs_cn_le (fun c => decide (b' c = 1)) 605
        omega
theorem gy_grow (ok : gs_ok g) (R : gy_R g b_there b_kinds b_lengths b_parts) (w : gy_w g b_list)
    {post : SY → Prop} (hm : h_many = nI (gs_N g)) (hp : ∀ b, gy_T g b → post (h_size, h_many, 0, b_there, b_kinds, b_lengths, b_parts, b_word, b_list, b, b_least)) : wpY_grow post (h_size, h_many, h_grown, b_there, b_kinds, b_lengths, b_parts, b_word, b_list, b_made, b_least) := by
  refine gl_fill (fun n x b => wY_grow_2 post h_size h_many h_grown n x b_there b_kinds b_lengths b_parts b_word b_list b b_least) 605 (fun _ => 0) ?_ ?_ b_made
  · intro n b hb
    refine br_t (nI_le (a := 605) (by omega) (by omega)) ⟨700, gy_while ok R w hm hp 606 1 b (fun c hc => Or.inl (hb c hc)) ?_ (fun e => absurd e (by decide)) (by omega) _ (by omega)⟩
    rintro k i j ⟨h1, h2, h3, h4⟩
    have hN := gs_N10 ok
    rw [hb _ (by omega)] at h4
    exact absurd h4 (by decide)
  · intro n i b hi h
    refine br_f (nI_ge (b := 605) (by omega) (by omega)) (And.intro (vp_in_nI hi (by decide)) ?_)
    rw [nI_clamp (by omega), gb_z0]
    exact nm_e (nm_r (nI_1 i) h)
theorem gy_read (ok : gs_ok g) (R : gy_R g b_there b_kinds b_lengths b_parts) (w : gy_w g b_word)
    {post : SY → Prop} (hm : h_size = nI (gs_N g)) (hp : ∀ l b, gy_w g l → gy_T g b → post (h_size, h_size, 0, b_there, b_kinds, b_lengths, b_parts, b_word, l, b, b_least)) : wpY_read post (h_size, h_many, h_grown, b_there, b_kinds, b_lengths, b_parts, b_word, b_list, b_made, b_least) := by
  have hN := gs_N10 ok
  subst hm
  refine gl_fill (fun n x l => wY_read_10 post (nI (gs_N g)) (nI (gs_N g)) h_grown n x b_there b_kinds b_lengths b_parts b_word l b_made b_least) (gs_N g) b_word ?_ ?_ b_list
  · intro n l hl
    refine br_t (nI_le (Nat.le_refl _) (by omega)) (gy_grow (b_list := l) ok R (fun i hi => by rw [hl i hi]; exact w i hi) rfl (fun b hb => hp l b (fun i hi => by rw [hl i hi]; exact w i hi) hb))
  · intro n i l hi h
    refine br_f (nI_ge hi (by omega)) (And.intro (vp_in_nI (by omega) (by decide)) (And.intro (vp_in_nI (by omega) (by decide)) ?_))
    rw [nI_clamp (by omega)]
    exact nm_e (nm_r (nI_1 i) h)
end
end
section
/-! the component: what it holds of the rules and the word; its small methods -/
def gx_C (g : gs_G) (f_present f_n : Int32) (a_kindOf a_lengthOf a_symbolOf a_word : Nat → Int32) : Prop :=
  gs_ok g ∧ f_n = nI (gs_N g) ∧ (∀ r, r < 16 → bt f_present r = gs_H g r) ∧ (∀ r, r < 16 → a_kindOf r = nI (gs_K g r)) ∧ (∀ r, r < 16 → a_lengthOf r = nI (gs_L g r)) ∧
  (∀ r d, r < 16 → d < 3 → a_symbolOf (r * 3 + d) = nI (gs_S g r d)) ∧ (∀ i, i < gs_N g → a_word i = nI (gs_W g i)) ∧ (∀ j, 16 ≤ j → bt f_present j = false)
/-- state st waits for symbol s -/
def gs_aw (g : gs_G) (st s : Nat) : Prop := gs_H g (st / 4) = true ∧ st % 4 < gs_L g (st / 4) ∧ gs_S g (st / 4) (st % 4) = s
def gs_let (g : gs_G) (s i : Nat) : Prop := 5 ≤ s ∧ i < gs_N g ∧ gs_W g i + 5 = s
section
variable {g : gs_G} {f_present f_n f_keptLength f_pairs f_first f_waiting : Int32} {a_kindOf a_lengthOf a_symbolOf a_word a_kept a_made a_other a_byLength a_above a_firstHalf a_secondHalf a_wholeOf a_begun a_fact a_open a_waitWhat a_waitFrom a_waitTo a_callers a_back a_least : Nat → Int32}
theorem gx_has (C : gx_C g f_present f_n a_kindOf a_lengthOf a_symbolOf a_word) {r : Nat} (hr : r < 16) {post : Int32 → Prop} (f : gs_H g r = false → post 0) (t : gs_H g r = true → post 1) : wpX_has post (f_present, f_n, f_keptLength, f_pairs, f_first, f_waiting, a_kindOf, a_lengthOf, a_symbolOf, a_word, a_kept, a_made, a_other, a_byLength, a_above, a_firstHalf, a_secondHalf, a_wholeOf, a_begun, a_fact, a_open, a_waitWhat, a_waitFrom, a_waitTo, a_callers, a_back, a_least) (nI r) :=
  br_f (nI_pos (by omega)) (br_f (nI_ge (b := 16) (by omega) (by omega)) (gb_br r (fun c => f (by rw [← C.2.2.1 r hr]; exact c)) (fun c => t (by rw [← C.2.2.1 r hr]; exact c))))
theorem gx_sym (C : gx_C g f_present f_n a_kindOf a_lengthOf a_symbolOf a_word) {r d : Nat} (hr : r < 16) (hd : d < 3) {post : Int32 → Prop} (h : post (nI (gs_S g r d))) : wpX_symbolAt post (f_present, f_n, f_keptLength, f_pairs, f_first, f_waiting, a_kindOf, a_lengthOf, a_symbolOf, a_word, a_kept, a_made, a_other, a_byLength, a_above, a_firstHalf, a_secondHalf, a_wholeOf, a_begun, a_fact, a_open, a_waitWhat, a_waitFrom, a_waitTo, a_callers, a_back, a_least) (nI r) (nI d) := by
  refine And.intro (by rw [ix_3]; exact vp_in_nI (by omega) (by decide)) ?_
  rw [ix_3, nI_clamp (by omega), C.2.2.2.2.2.1 r d hr hd]
  exact h
theorem gx_let (C : gx_C g f_present f_n a_kindOf a_lengthOf a_symbolOf a_word) {s i : Nat} (hs : s < 8) (hi : i ≤ gs_N g) {post : Int32 → Prop} (h : ∀ z, gs_tf (gs_let g s i) z → post z) : wpX_isLetterAt post (f_present, f_n, f_keptLength, f_pairs, f_first, f_waiting, a_kindOf, a_lengthOf, a_symbolOf, a_word, a_kept, a_made, a_other, a_byLength, a_above, a_firstHalf, a_secondHalf, a_wholeOf, a_begun, a_fact, a_open, a_waitWhat, a_waitFrom, a_waitTo, a_callers, a_back, a_least) (nI s) (nI i) := by
  have hN := gs_N10 C.1
  refine pk_lt s 5 (fun h5 => h 0 (gs_tf0 (fun c => absurd c.1 (by omega)))) (fun h5 => ?_)
  refine pk_le (gs_N g) i (fun h6 => h 0 (gs_tf0 (fun c => absurd c.2.1 (by omega)))) (fun h6 => ?_) C.2.1
  refine And.intro (vp_in_nI (by omega) (by decide)) ?_
  have hw := gs_W3 C.1 h6
  rw [nI_clamp (by omega), C.2.2.2.2.2.2.1 i h6]
  exact pk_eq (gs_W g i) (s - 5) (fun e => h 1 (gs_tf1 ⟨h5, h6, by omega⟩)) (fun e => h 0 (gs_tf0 (fun c => e (by have := c.2.2; omega)))) rfl (pk_sub (b := 5) h5)
theorem gx_aw (C : gx_C g f_present f_n a_kindOf a_lengthOf a_symbolOf a_word) {st s : Nat} (hst : st < 64) (hs : s < 8) {post : Int32 → Prop} (h : ∀ z, gs_tf (gs_aw g st s) z → post z) : wpX_awaits post (f_present, f_n, f_keptLength, f_pairs, f_first, f_waiting, a_kindOf, a_lengthOf, a_symbolOf, a_word, a_kept, a_made, a_other, a_byLength, a_above, a_firstHalf, a_secondHalf, a_wholeOf, a_begun, a_fact, a_open, a_waitWhat, a_waitFrom, a_waitTo, a_callers, a_back, a_least) (nI st) (nI s) := by
  have hr : st / 4 < 16 := by omega
  have hL := gs_L3 C.1 hr
  refine And.intro ix_40 (nm_r (ix_d4 (by omega)) (And.intro ix_40 (nm_r (ix_r4 (by omega)) ?_)))
  refine gx_has C hr (fun c => br_t rfl (h 0 (gs_tf0 (fun d => by have := d.1; rw [c] at this; exact absurd this (by decide))))) (fun c => br_f gb_10 (And.intro (vp_in_nI hr (by decide)) ?_))
  rw [nI_clamp (by omega), C.2.2.2.2.1 _ hr]
  refine pk_le (gs_L g (st / 4)) (st % 4) (fun e => h 0 (gs_tf0 (fun d => absurd d.2.1 (by omega)))) (fun e => ?_)
  have h8 := gs_S8 C.1 hr (show st % 4 < 3 by omega)
  refine gx_sym C hr (by omega) ?_
  exact pk_eq _ s (fun e2 => h 1 (gs_tf1 ⟨c, e, e2⟩)) (fun e2 => h 0 (gs_tf0 (fun d => e2 d.2.2)))
theorem gx_all (C : gx_C g f_present f_n a_kindOf a_lengthOf a_symbolOf a_word) {r : Nat} (hr : r < 16) (x : Int32) {post : Int32 → Prop} (h : ∀ z, gs_tf (∀ e, e < gs_L g r → bt x (gs_S g r e) = true) z → post z) : wpX_allIn post (f_present, f_n, f_keptLength, f_pairs, f_first, f_waiting, a_kindOf, a_lengthOf, a_symbolOf, a_word, a_kept, a_made, a_other, a_byLength, a_above, a_firstHalf, a_secondHalf, a_wholeOf, a_begun, a_fact, a_open, a_waitWhat, a_waitFrom, a_waitTo, a_callers, a_back, a_least) (nI r) x := by
  have hL := gs_L3 C.1 hr
  refine gl_ex (fun n d z => wX_allIn_5 post (nI r) x f_present f_n f_keptLength f_pairs f_first f_waiting a_kindOf a_lengthOf a_symbolOf a_word a_kept a_made a_other a_byLength a_above a_firstHalf a_secondHalf a_wholeOf a_begun a_fact a_open a_waitWhat a_waitFrom a_waitTo a_callers a_back a_least n z (nI d)) (fun d z => gs_tf (∀ e, e < d → bt x (gs_S g r e) = true) z) (gs_L g r) 0 1 (by omega) (gs_tf1 (fun e he => absurd he (by omega))) ?_ ?_
  · intro n z hz
    refine And.intro (vp_in_nI hr (by decide)) ?_
    rw [nI_clamp (by omega), C.2.2.2.2.1 _ hr]
    exact br_t (nI_le (by omega) (by omega)) (And.intro (gs_tf_nar hz) (h z hz))
  · intro n d z hd hz go
    refine And.intro (vp_in_nI hr (by decide)) ?_
    rw [nI_clamp (by omega), C.2.2.2.2.1 _ hr]
    refine br_f (nI_ge (by omega) (by omega)) (gs_tf_br hz (fun no => nm_r (nI_1 d) (go 0 (gs_tf0 (fun c => no (fun e he => c e (by omega)))))) (fun yes => ?_))
    refine gx_sym C hr (by omega) ?_
    have h8 := gs_S8 C.1 hr (show d < 3 by omega)
    refine gb_br (gs_S g r d) (fun c => nm_r (nI_1 d) (go 0 (gs_tf0 (fun a => ?_)))) (fun c => nm_r (nI_1 d) (go 1 (gs_tf1 (fun e he => ?_))))
    · have := a d (by omega)
      rw [c] at this
      exact absurd this (by decide)
    · by_cases e1 : e = d
      · rw [e1]; exact c
      · exact yes e (by omega)
theorem gx_clear {post : SX → Prop} (h : ∀ a, (∀ c, c < 55 → a c = 0) → post (f_present, f_n, f_keptLength, f_pairs, f_first, f_waiting, a_kindOf, a_lengthOf, a_symbolOf, a_word, a_kept, a, a_other, a_byLength, a_above, a_firstHalf, a_secondHalf, a_wholeOf, a_begun, a_fact, a_open, a_waitWhat, a_waitFrom, a_waitTo, a_callers, a_back, a_least)) : wpX_clearMade post (f_present, f_n, f_keptLength, f_pairs, f_first, f_waiting, a_kindOf, a_lengthOf, a_symbolOf, a_word, a_kept, a_made, a_other, a_byLength, a_above, a_firstHalf, a_secondHalf, a_wholeOf, a_begun, a_fact, a_open, a_waitWhat, a_waitFrom, a_waitTo, a_callers, a_back, a_least) := by
  refine gl_fill (fun n x a => wX_clearMade_2 post f_present f_n f_keptLength f_pairs f_first f_waiting n x a_kindOf a_lengthOf a_symbolOf a_word a_kept a a_other a_byLength a_above a_firstHalf a_secondHalf a_wholeOf a_begun a_fact a_open a_waitWhat a_waitFrom a_waitTo a_callers a_back a_least) 55 (fun _ => 0) ?_ ?_ a_made
  · intro n a ha
    exact br_t (nI_le (a := 55) (by omega) (by omega)) (h a ha)
  · intro n i a hi hh
    refine br_f (nI_ge (b := 55) (by omega) (by omega)) (And.intro (vp_in_nI hi (by decide)) ?_)
    rw [nI_clamp (by omega)]
    exact nm_e (nm_r (nI_1 i) hh)
theorem gx_kind {x : Int32} {post : Int32 → Prop} (f : (x < 0 ∨ 5 ≤ x) → post 0) (t : ∀ k, k < 5 → x = nI k → post 1) : wpX_isKind post x := by
  refine br_c (fun h => f (Or.inl h)) (fun h => br_c (fun h5 => f (Or.inr h5)) (fun h5 => ?_))
  obtain ⟨k, hk, rfl⟩ := nI_of h
  refine t k ?_ rfl
  apply Classical.byContradiction
  intro hn
  exact h5 (nI_le (a := 5) (by omega) hk)
/-! the kinds that make the empty list -/
def gx_eext (g : gs_G) (x0 : Int32) (P : Prop) (x : Int32) : Prop :=
  (∀ k, bt x k = true → gs_Nul g k) ∧ (∀ k, bt x0 k = true → bt x k = true) ∧ ((x = x0 ∧ P) ∨ ∃ k, k < 5 ∧ bt x0 k = false ∧ bt x k = true)
theorem gx_eext_P {x0 x : Int32} {P Q : Prop} (e : P → Q) (h : gx_eext g x0 P x) : gx_eext g x0 Q x :=
  ⟨h.1, h.2.1, h.2.2.imp (fun c => ⟨c.1, e c.2⟩) (fun c => c)⟩
theorem gx_e11 (C : gx_C g f_present f_n a_kindOf a_lengthOf a_symbolOf a_word) {post : Int32 → Prop} {J4 : Int32 → Int32 → Prop} {x0 : Int32} {t : Nat} (hx0 : ∀ k, bt x0 k = true → gs_Nul g k)
    (hJ : ∀ x, gx_eext g x0 (gs_ncl g (fun k => bt x0 k = true)) x → J4 x (nI (t + 1))) : ∃ n, wX_empty_11 post J4 (nI t) f_present f_n f_keptLength f_pairs f_first f_waiting a_kindOf a_lengthOf a_symbolOf a_word a_kept a_made a_other a_byLength a_above a_firstHalf a_secondHalf a_wholeOf a_begun a_fact a_open a_waitWhat a_waitFrom a_waitTo a_callers a_back a_least n x0 0 := by
  refine gl_ex (fun n r x => wX_empty_11 post J4 (nI t) f_present f_n f_keptLength f_pairs f_first f_waiting a_kindOf a_lengthOf a_symbolOf a_word a_kept a_made a_other a_byLength a_above a_firstHalf a_secondHalf a_wholeOf a_begun a_fact a_open a_waitWhat a_waitFrom a_waitTo a_callers a_back a_least n x (nI r)) (fun r x => gx_eext g x0 (∀ r', r' < r → gs_H g r' = true → gs_nr g (fun k => bt x0 k = true) r' → bt x0 (gs_K g r') = true) x) 16 0 x0 (by omega) ⟨hx0, fun _ h => h, Or.inl ⟨rfl, fun r' hr' => absurd hr' (by omega)⟩⟩ ?_ ?_
  · intro n x hx
    exact br_t (nI_le (a := 16) (by omega) (by omega)) (nm_r (nI_1 t) (hJ x hx))
  · intro n r x hr hx go
    have hK := gs_K5 C.1 hr
    have hL := gs_L3 C.1 hr
    refine br_f (nI_ge (b := 16) (by omega) (by omega)) ?_
    -- the rule gives nothing new at x
    have keep : (gs_H g r = true → (∀ e, e < gs_L g r → bt x (gs_S g r e) = true) → bt x (gs_K g r) = true) → wX_empty_11 post J4 (nI t) f_present f_n f_keptLength f_pairs f_first f_waiting a_kindOf a_lengthOf a_symbolOf a_word a_kept a_made a_other a_byLength a_above a_firstHalf a_secondHalf a_wholeOf a_begun a_fact a_open a_waitWhat a_waitFrom a_waitTo a_callers a_back a_least n x (nI (r + 1)) := by
      intro hc
      refine go x ⟨hx.1, hx.2.1, ?_⟩
      rcases hx.2.2 with ⟨e, p⟩ | c
      · refine Or.inl ⟨e, fun r' hr' hh hn => ?_⟩
        by_cases e1 : r' = r
        · rw [e1] at hh hn ⊢
          rw [← e]
          exact hc hh (fun d hd => by rw [e]; exact (hn d hd).2)
        · exact p r' (by omega) hh hn
      · exact Or.inr c
    refine gx_has C hr (fun c => br_t rfl (nm_r (gb_or0 x) (nm_r (nI_1 r) (keep (fun h => absurd (c.symm.trans h) (by decide)))))) (fun c => br_f gb_10 ?_)
    refine gx_all C hr x (fun z hz => gs_tf_br hz (fun no => nm_r (gb_or0 x) (nm_r (nI_1 r) (keep (fun _ h => absurd h no)))) (fun yes => ?_))
    refine And.intro (vp_in_nI hr (by decide)) ?_
    rw [nI_clamp (by omega), C.2.2.2.1 _ hr]
    by_cases hb : bt x (gs_K g r) = true
    · refine nm_r (gb_or_sub (fun j hj hx1 => ?_)) (nm_r (nI_1 r) (keep (fun _ _ => hb)))
      rw [gb_one (by omega) hj] at hx1
      rw [of_decide_eq_true hx1]
      exact hb
    · refine nm_e (nm_r (nI_1 r) (go _ ⟨?_, ?_, Or.inr ⟨gs_K g r, hK, ?_, ?_⟩⟩))
      · intro k hk
        rw [b_or] at hk
        by_cases h32 : k < 32
        · rw [gb_one (by omega) h32] at hk
          by_cases e : k = gs_K g r
          · rw [e]
            refine gs_Nul_cl g r hr c (fun d hd => ?_)
            have h1 := hx.1 _ (yes d hd)
            exact ⟨gs_Nul_k C.1 h1, h1⟩
          · simp [e] at hk
            exact hx.1 k hk
        · rw [b_big (x := x) (by omega), b_big (by omega)] at hk
          exact absurd hk (by decide)
      · intro k hk
        rw [b_or, hx.2.1 k hk]
        rfl
      · exact ts_nt (fun h => hb (hx.2.1 _ h))
      · rw [b_or, gb_one (by omega) (by omega)]
        simp
theorem gx_empty (C : gx_C g f_present f_n a_kindOf a_lengthOf a_symbolOf a_word) {post : Int32 → Prop} (h : ∀ x, (∀ k, bt x k = true ↔ gs_Nul g k) → post x) : wpX_empty post (f_present, f_n, f_keptLength, f_pairs, f_first, f_waiting, a_kindOf, a_lengthOf, a_symbolOf, a_word, a_kept, a_made, a_other, a_byLength, a_above, a_firstHalf, a_secondHalf, a_wholeOf, a_begun, a_fact, a_open, a_waitWhat, a_waitFrom, a_waitTo, a_callers, a_back, a_least) := by
  refine gl_ex (fun n t x => wX_empty_4 post f_present f_n f_keptLength f_pairs f_first f_waiting a_kindOf a_lengthOf a_symbolOf a_word a_kept a_made a_other a_byLength a_above a_firstHalf a_secondHalf a_wholeOf a_begun a_fact a_open a_waitWhat a_waitFrom a_waitTo a_callers a_back a_least n x (nI t)) (fun t x => (∀ k, bt x k = true → gs_Nul g k) ∧ (gs_ncl g (fun k => bt x k = true) ∨ t ≤ gs_cn (bt x) 5)) 6 0 0 (by omega) ⟨fun k hk => by rw [b_0] at hk; exact absurd hk (by decide), Or.inr (by omega)⟩ ?_ ?_
  · intro n x hx
    refine br_t (nI_lt (a := 5) (by omega) (by omega)) (h x (fun k => ⟨hx.1 k, fun hk => ?_⟩))
    rcases hx.2 with c | c
    · exact hk _ c
    · have := gs_cn_le (bt x) 5
      omega
  · intro n t x ht hx go
    refine br_f (nI_nlt (b := t) (a := 5) (by omega) (by omega)) (gx_e11 C hx.1 (fun x' hx' => go x' ⟨hx'.1, ?_⟩))
    rcases hx'.2.2 with ⟨e, p⟩ | ⟨k, hk, h0, h1⟩
    · rw [e]; exact Or.inl p
    · rcases hx.2 with c | c
      · have := hx'.1 k h1 _ c
        rw [h0] at this
        exact absurd this (by decide)
      · have := gs_cn_lt 5 (fun t _ ht => hx'.2.1 t ht) k hk h0 h1
        exact Or.inr (by omega)
end
end
section
/-! engine 3: rows of ends -/
def gx_M (g : gs_G) (a : Nat → Int32) (k i j : Nat) : Prop := k < 5 ∧ i ≤ gs_N g ∧ j < 32 ∧ bt (a (k * 11 + i)) j = true
/-- what an engine is to find -/
def gx_T (g : gs_G) (a : Nat → Int32) : Prop := ∀ k i j, k < 5 → i ≤ gs_N g → j < 32 → (bt (a (k * 11 + i)) j = true ↔ gs_Der g k i j)
def gx_ext (g : gs_G) (a0 : Nat → Int32) (P : Prop) (z : Int32) (a : Nat → Int32) : Prop :=
  (∀ k i j, gx_M g a k i j → gs_Der g k i j) ∧ (∀ c j, bt (a0 c) j = true → bt (a c) j = true) ∧
  ((z = 0 ∧ a = a0 ∧ P) ∨ (z = 1 ∧ ∃ c, c < 55 ∧ ∃ j, j < 32 ∧ bt (a0 c) j = false ∧ bt (a c) j = true))
theorem gx_ext_P {g : gs_G} {a0 a : Nat → Int32} {z : Int32} {P Q : Prop} (e : P → Q) (x : gx_ext g a0 P z a) : gx_ext g a0 Q z a :=
  ⟨x.1, x.2.1, x.2.2.imp (fun c => ⟨c.1, c.2.1, e c.2.2⟩) (fun c => c)⟩
theorem gx_ext01 {g : gs_G} {a0 a : Nat → Int32} {z : Int32} {P : Prop} (x : gx_ext g a0 P z a) : z = 0 ∨ z = 1 :=
  x.2.2.imp (fun c => c.1) (fun c => c.1)
theorem gb_10or {z : Int32} (h : z = 0 ∨ z = 1) : z ||| 1 = 1 := by
  rcases h with h | h <;> rw [h] <;> decide
/-- one growth behind another -/
theorem gx_ext_tr {g : gs_G} {a0 a a' : Nat → Int32} {z z' : Int32} {P Q : Prop} (x : gx_ext g a0 P z a) (y : gx_ext g a Q z' a') : gx_ext g a0 (P ∧ a = a0 ∧ Q) (z ||| z') a' := by
  refine ⟨y.1, fun c j h => y.2.1 c j (x.2.1 c j h), ?_⟩
  rcases y.2.2 with ⟨e1, e2, q⟩ | ⟨e1, c, hc, j, hj, h0, h1⟩
  · rw [e1, gb_or0, e2]
    rcases x.2.2 with ⟨f1, f2, p⟩ | f
    · exact Or.inl ⟨f1, f2, p, f2, q⟩
    · exact Or.inr f
  · rw [e1, gb_10or (gx_ext01 x)]
    exact Or.inr ⟨rfl, c, hc, j, hj, ts_nt (fun h => by have := x.2.1 c j h; rw [h0] at this; exact absurd this (by decide)), h1⟩
theorem gx_sound_rng {g : gs_G} {a : Nat → Int32} (hs : ∀ k i j, gx_M g a k i j → gs_Der g k i j) (k i j : Nat) (h : gx_M g a k i j) : i ≤ j ∧ j ≤ gs_N g := gs_Der_rng (hs k i j h)
section
variable {g : gs_G} {f_present f_n f_keptLength f_pairs f_first f_waiting : Int32} {a_kindOf a_lengthOf a_symbolOf a_word a_kept a_made a_other a_byLength a_above a_firstHalf a_secondHalf a_wholeOf a_begun a_fact a_open a_waitWhat a_waitFrom a_waitTo a_callers a_back a_least : Nat → Int32}
theorem gx_rowOf (C : gx_C g f_present f_n a_kindOf a_lengthOf a_symbolOf a_word) {s i : Nat} (hs : s < 8) (hi : i ≤ gs_N g) {post : Int32 → Prop} (h : ∀ x, (∀ j, j < 32 → (bt x j = true ↔ gs_cov g (gx_M g a_made) s i j)) → post x) : wpX_rowOf post (f_present, f_n, f_keptLength, f_pairs, f_first, f_waiting, a_kindOf, a_lengthOf, a_symbolOf, a_word, a_kept, a_made, a_other, a_byLength, a_above, a_firstHalf, a_secondHalf, a_wholeOf, a_begun, a_fact, a_open, a_waitWhat, a_waitFrom, a_waitTo, a_callers, a_back, a_least) (nI s) (nI i) := by
  have hN := gs_N10 C.1
  refine pk_le 5 s (fun h5 => ?_) (fun h5 => ?_)
  · refine gx_let C hs hi (fun z hz => gs_tf_br hz (fun no => h 0 (fun j hj => ?_)) (fun yes => h _ (fun j hj => ?_)))
    · rw [b_0]
      constructor
      · intro c; exact absurd c (by decide)
      · rintro (⟨c, _⟩ | ⟨c1, c2, c3, c4⟩)
        · omega
        · exact absurd ⟨c1, c3, c4⟩ no
    · rw [gb_two (by omega) hj, decide_eq_true_eq]
      constructor
      · intro e; exact Or.inr ⟨yes.1, e, yes.2.1, yes.2.2⟩
      · rintro (⟨c, _⟩ | ⟨c1, c2, c3, c4⟩)
        · omega
        · exact c2
  · refine And.intro (by rw [ix_11]; exact vp_in_nI (by omega) (by decide)) ?_
    rw [ix_11, nI_clamp (by omega)]
    refine h _ (fun j hj => ⟨fun e => Or.inl ⟨h5, h5, hi, hj, e⟩, ?_⟩)
    rintro (⟨_, c⟩ | ⟨c, _⟩)
    · exact c.2.2.2
    · omega
theorem gx_nextRow (C : gx_C g f_present f_n a_kindOf a_lengthOf a_symbolOf a_word) {s : Nat} (hs : s < 8) (row : Int32) {post : Int32 → Prop} (h : ∀ x, (∀ j, j < 32 → (bt x j = true ↔ ∃ m, m ≤ gs_N g ∧ bt row m = true ∧ gs_cov g (gx_M g a_made) s m j)) → post x) : wpX_nextRow post (f_present, f_n, f_keptLength, f_pairs, f_first, f_waiting, a_kindOf, a_lengthOf, a_symbolOf, a_word, a_kept, a_made, a_other, a_byLength, a_above, a_firstHalf, a_secondHalf, a_wholeOf, a_begun, a_fact, a_open, a_waitWhat, a_waitFrom, a_waitTo, a_callers, a_back, a_least) row (nI s) := by
  have hN := gs_N10 C.1
  have eN := C.2.1
  subst eN
  refine gl_ex (fun n m x => wX_nextRow_5 post row (nI s) f_present (nI (gs_N g)) f_keptLength f_pairs f_first f_waiting a_kindOf a_lengthOf a_symbolOf a_word a_kept a_made a_other a_byLength a_above a_firstHalf a_secondHalf a_wholeOf a_begun a_fact a_open a_waitWhat a_waitFrom a_waitTo a_callers a_back a_least n x (nI m)) (fun i x => ∀ j, j < 32 → (bt x j = true ↔ ∃ m, m < i ∧ bt row m = true ∧ gs_cov g (gx_M g a_made) s m j)) (gs_N g + 1) 0 0 (by omega) ?_ ?_ ?_
  · intro j hj
    rw [b_0]
    constructor
    · intro c; exact absurd c (by decide)
    · rintro ⟨m, c, _⟩; omega
  · intro n x hx
    refine br_t (nI_lt (by omega) (by omega)) (h x (fun j hj => (hx j hj).trans ⟨?_, ?_⟩))
    · rintro ⟨m, c, d⟩; exact ⟨m, by omega, d⟩
    · rintro ⟨m, c, d⟩; exact ⟨m, by omega, d⟩
  · intro n i x hi hx go
    refine br_f (nI_nlt (by omega) (by omega)) (gb_br i (fun c => ?_) (fun c => ?_))
    · refine nm_r (gb_or0 x) (nm_r (nI_1 i) (go x (fun j hj => (hx j hj).trans ⟨?_, ?_⟩)))
      · rintro ⟨m, e, d⟩; exact ⟨m, by omega, d⟩
      · rintro ⟨m, e, d⟩
        by_cases e1 : m = i
        · rw [e1, c] at d; exact absurd d.1 (by decide)
        · exact ⟨m, by omega, d⟩
    · refine gx_rowOf C hs (by omega) (fun y hy => nm_e (nm_r (nI_1 i) (go _ (fun j hj => ?_))))
      rw [b_or, Bool.or_eq_true, hx j hj, hy j hj]
      constructor
      · rintro (⟨m, e, d⟩ | d)
        · exact ⟨m, by omega, d⟩
        · exact ⟨i, by omega, c, d⟩
      · rintro ⟨m, e, d⟩
        by_cases e1 : m = i
        · rw [e1] at d; exact Or.inr d.2
        · exact Or.inl ⟨m, by omega, d⟩
theorem gx_rowFrom (C : gx_C g f_present f_n a_kindOf a_lengthOf a_symbolOf a_word) (hs : ∀ k i j, gx_M g a_made k i j → gs_Der g k i j) {r i : Nat} (hr : r < 16) (hi : i ≤ gs_N g) {post : Int32 → Prop} (h : ∀ x, (∀ j, j < 32 → (bt x j = true ↔ gs_pre g (gx_M g a_made) r i (gs_L g r) j)) → post x) : wpX_rowFrom post (f_present, f_n, f_keptLength, f_pairs, f_first, f_waiting, a_kindOf, a_lengthOf, a_symbolOf, a_word, a_kept, a_made, a_other, a_byLength, a_above, a_firstHalf, a_secondHalf, a_wholeOf, a_begun, a_fact, a_open, a_waitWhat, a_waitFrom, a_waitTo, a_callers, a_back, a_least) (nI r) (nI i) := by
  have hN := gs_N10 C.1
  have hL := gs_L3 C.1 hr
  refine nm_e ?_
  refine gl_ex (fun n d x => wX_rowFrom_7 post (nI r) f_present f_n f_keptLength f_pairs f_first f_waiting a_kindOf a_lengthOf a_symbolOf a_word a_kept a_made a_other a_byLength a_above a_firstHalf a_secondHalf a_wholeOf a_begun a_fact a_open a_waitWhat a_waitFrom a_waitTo a_callers a_back a_least n x (nI d)) (fun d x => ∀ j, j < 32 → (bt x j = true ↔ gs_pre g (gx_M g a_made) r i d j)) (gs_L g r) 0 _ (by omega) ?_ ?_ ?_
  · intro j hj
    rw [gb_one (by omega) hj, decide_eq_true_eq]
    exact Iff.rfl
  · intro n x hx
    refine And.intro (vp_in_nI hr (by decide)) ?_
    rw [nI_clamp (by omega), C.2.2.2.2.1 _ hr]
    exact br_t (nI_le (by omega) (by omega)) (h x hx)
  · intro n d x hd hx go
    refine And.intro (vp_in_nI hr (by decide)) ?_
    rw [nI_clamp (by omega), C.2.2.2.2.1 _ hr]
    refine br_f (nI_ge (by omega) (by omega)) (gx_sym C hr (by omega) (gx_nextRow C (gs_S8 C.1 hr (by omega)) x (fun y hy => nm_r (nI_1 d) (go y (fun j hj => (hy j hj).trans ⟨?_, ?_⟩)))))
    · rintro ⟨m, h1, h2, h3⟩
      exact ⟨m, (hx m (by omega)).mp h2, h3⟩
    · rintro ⟨m, h2, h3⟩
      have rg := gs_pre_rng (gx_sound_rng hs) hi h2
      exact ⟨m, rg.2, (hx m (by omega)).mpr h2, h3⟩
theorem gx_bup {a : Nat → Int32} {c : Nat} {x : Int32} (c' j : Nat) : bt (upd a c (a c ||| x) c') j = true ↔ bt (a c') j = true ∨ (c' = c ∧ bt x j = true) := by
  by_cases e : c' = c
  · rw [e, pk_us, b_or, Bool.or_eq_true]
    exact ⟨fun h => h.imp id (fun h => ⟨rfl, h⟩), fun h => h.imp id (fun h => h.2)⟩
  · rw [pk_un e]
    exact ⟨Or.inl, fun h => h.elim id (fun h => absurd h.1 e)⟩
theorem gx_growRows (C : gx_C g f_present f_n a_kindOf a_lengthOf a_symbolOf a_word) (hs : ∀ k i j, gx_M g a_made k i j → gs_Der g k i j) {r : Nat} (hr : r < 16) (hH : gs_H g r = true) {post : Int32 → SX → Prop}
    (h : ∀ z a, gx_ext g a_made (gs_rcl g (gx_M g a_made) r) z a → post z (f_present, f_n, f_keptLength, f_pairs, f_first, f_waiting, a_kindOf, a_lengthOf, a_symbolOf, a_word, a_kept, a, a_other, a_byLength, a_above, a_firstHalf, a_secondHalf, a_wholeOf, a_begun, a_fact, a_open, a_waitWhat, a_waitFrom, a_waitTo, a_callers, a_back, a_least)) : wpX_growRows post (f_present, f_n, f_keptLength, f_pairs, f_first, f_waiting, a_kindOf, a_lengthOf, a_symbolOf, a_word, a_kept, a_made, a_other, a_byLength, a_above, a_firstHalf, a_secondHalf, a_wholeOf, a_begun, a_fact, a_open, a_waitWhat, a_waitFrom, a_waitTo, a_callers, a_back, a_least) (nI r) := by
  have hN := gs_N10 C.1
  have hK := gs_K5 C.1 hr
  have eN := C.2.1
  subst eN
  refine gl_ex (fun n i (s : Int32 × (Nat → Int32)) => wX_growRows_4 post (nI r) f_present (nI (gs_N g)) f_keptLength f_pairs f_first f_waiting n s.1 (nI i) a_kindOf a_lengthOf a_symbolOf a_word a_kept s.2 a_other a_byLength a_above a_firstHalf a_secondHalf a_wholeOf a_begun a_fact a_open a_waitWhat a_waitFrom a_waitTo a_callers a_back a_least)
    (fun i s => gx_ext g a_made (∀ i' j, i' < i → gs_pre g (gx_M g a_made) r i' (gs_L g r) j → gx_M g a_made (gs_K g r) i' j) s.1 s.2) (gs_N g + 1) 0 (0, a_made) (by omega) ⟨hs, fun _ _ h => h, Or.inl ⟨rfl, rfl, fun i' j h => absurd h (by omega)⟩⟩ ?_ ?_
  · rintro n ⟨z, a⟩ y
    exact br_t (nI_lt (by omega) (by omega)) (And.intro (gb_nar (gx_ext01 y)) (h z a (gx_ext_P (fun p i j hi hp => p i j (by omega) hp) y)))
  · rintro n i ⟨z, a⟩ hi y go
    have hc : gs_K g r * 11 + i < 55 := by omega
    refine br_f (nI_nlt (by omega) (by omega)) (gx_rowFrom (a_made := a) C y.1 hr (by omega) (fun x hx => ?_))
    refine And.intro (vp_in_nI hr (by decide)) ?_
    refine nm_r (e' := nI (gs_K g r * 11 + i)) (by rw [nI_clamp (by omega), C.2.2.2.1 _ hr, ix_11]) ?_
    refine And.intro (vp_in_nI hc (by decide)) ?_
    rw [nI_clamp (by omega)]
    -- the rest, once the flag is known
    have rest : ∀ q, gx_ext g a (∀ j, gs_pre g (gx_M g a) r i (gs_L g r) j → gx_M g a (gs_K g r) i j) q (upd a (gs_K g r * 11 + i) (a (gs_K g r * 11 + i) ||| x)) →
        wX_growRows_54 post (wX_growRows_4 post (nI r) f_present (nI (gs_N g)) f_keptLength f_pairs f_first f_waiting n) (nI r) (nI i) x (nI (gs_K g r * 11 + i)) q z f_present (nI (gs_N g)) f_keptLength f_pairs f_first f_waiting a_kindOf a_lengthOf a_symbolOf a_word a_kept a a_other a_byLength a_above a_firstHalf a_secondHalf a_wholeOf a_begun a_fact a_open a_waitWhat a_waitFrom a_waitTo a_callers a_back a_least := by
      intro q hq
      refine nm_e (And.intro (vp_in_nI hc (by decide)) (And.intro (vp_in_nI hc (by decide)) ?_))
      rw [nI_clamp (by omega)]
      refine nm_e (nm_r (nI_1 i) (go (_, _) (gx_ext_P ?_ (gx_ext_tr y hq))))
      rintro ⟨p, ea, p2⟩ i' j hi' hp
      by_cases e : i' = i
      · rw [e] at hp ⊢
        have ea' : a = a_made := ea
        rw [ea'] at p2
        exact p2 j hp
      · exact p i' j (by omega) hp
    have sound : ∀ k i' j, gx_M g (upd a (gs_K g r * 11 + i) (a (gs_K g r * 11 + i) ||| x)) k i' j → gs_Der g k i' j := by
      rintro k i' j ⟨h1, h2, h3, h4⟩
      rcases (gx_bup _ _).mp h4 with h4 | ⟨e, h4⟩
      · exact y.1 k i' j ⟨h1, h2, h3, h4⟩
      · have e1 : k = gs_K g r := by omega
        have e2 : i' = i := by omega
        rw [e1, e2]
        exact gs_Der_cl g r hr hH i j (by omega) (gs_pre_mono y.1 ((hx j h3).mp h4))
    refine br_c (fun c => rest 0 ⟨sound, fun c j hb => (gx_bup _ _).mpr (Or.inl hb), Or.inl ⟨rfl, ?_, ?_⟩⟩) (fun c => rest 1 ⟨sound, fun c j hb => (gx_bup _ _).mpr (Or.inl hb), Or.inr ⟨rfl, ?_⟩⟩)
    · exact gb_upd_id (gb_or_sub (gb_news.mp c))
    · intro j hp
      have rg := gs_pre_rng (gx_sound_rng y.1) (by omega) hp
      exact ⟨hK, by omega, by omega, gb_news.mp c j (by omega) ((hx j (by omega)).mpr hp)⟩
    · obtain ⟨j, hj, h1, h2⟩ := gb_nnews c
      exact ⟨_, hc, j, hj, h2, (gx_bup _ _).mpr (Or.inr ⟨rfl, h1⟩)⟩
theorem gx_r14 (C : gx_C g f_present f_n a_kindOf a_lengthOf a_symbolOf a_word) (hs : ∀ k i j, gx_M g a_made k i j → gs_Der g k i j) {post : SX → Prop}
    {J6 : Int32 → Int32 → Int32 → Int32 → Int32 → Int32 → Int32 → (Nat → Int32) → (Nat → Int32) → (Nat → Int32) → (Nat → Int32) → (Nat → Int32) → (Nat → Int32) → (Nat → Int32) → (Nat → Int32) → (Nat → Int32) → (Nat → Int32) → (Nat → Int32) → (Nat → Int32) → (Nat → Int32) → (Nat → Int32) → (Nat → Int32) → (Nat → Int32) → (Nat → Int32) → (Nat → Int32) → (Nat → Int32) → (Nat → Int32) → (Nat → Int32) → Prop}
    (hJ : ∀ z a, gx_ext g a_made (gs_cl g (gx_M g a_made)) z a → J6 z f_present f_n f_keptLength f_pairs f_first f_waiting a_kindOf a_lengthOf a_symbolOf a_word a_kept a a_other a_byLength a_above a_firstHalf a_secondHalf a_wholeOf a_begun a_fact a_open a_waitWhat a_waitFrom a_waitTo a_callers a_back a_least) : ∃ n, wX_solveByRows_14 post J6 n 0 0 f_present f_n f_keptLength f_pairs f_first f_waiting a_kindOf a_lengthOf a_symbolOf a_word a_kept a_made a_other a_byLength a_above a_firstHalf a_secondHalf a_wholeOf a_begun a_fact a_open a_waitWhat a_waitFrom a_waitTo a_callers a_back a_least := by
  refine gl_ex (fun n r (s : Int32 × (Nat → Int32)) => wX_solveByRows_14 post J6 n s.1 (nI r) f_present f_n f_keptLength f_pairs f_first f_waiting a_kindOf a_lengthOf a_symbolOf a_word a_kept s.2 a_other a_byLength a_above a_firstHalf a_secondHalf a_wholeOf a_begun a_fact a_open a_waitWhat a_waitFrom a_waitTo a_callers a_back a_least)
    (fun r s => gx_ext g a_made (∀ r', r' < r → gs_H g r' = true → gs_rcl g (gx_M g a_made) r') s.1 s.2) 16 0 (0, a_made) (by omega) ⟨hs, fun _ _ h => h, Or.inl ⟨rfl, rfl, fun r' h => absurd h (by omega)⟩⟩ ?_ ?_
  · rintro n ⟨z, a⟩ y
    exact br_t (nI_le (a := 16) (by omega) (by omega)) (hJ z a y)
  · rintro n r ⟨z, a⟩ hr y go
    refine br_f (nI_ge (b := 16) (by omega) (by omega)) (gx_has C hr (fun c => br_t rfl (nm_r (gb_or0 z) (nm_r (nI_1 r) (go (z, a) (gx_ext_P ?_ y))))) (fun c => br_f gb_10 ?_))
    · intro p r' hr' hh
      by_cases e : r' = r
      · rw [e, c] at hh; exact absurd hh (by decide)
      · exact p r' (by omega) hh
    · refine gx_growRows (a_made := a) C y.1 hr c (fun q b hq => ?_)
      have fin : gx_ext g a_made (∀ r', r' < r + 1 → gs_H g r' = true → gs_rcl g (gx_M g a_made) r') (z ||| q) b := by
        refine gx_ext_P ?_ (gx_ext_tr y hq)
        rintro ⟨p, ea, p2⟩ r' hr' hh
        by_cases e : r' = r
        · have ea' : a = a_made := ea
          rw [ea'] at p2
          rw [e]; exact p2
        · exact p r' (by omega) hh
      rcases gx_ext01 hq with e | e
      · rw [e] at fin ⊢
        exact br_t rfl (nm_e (nm_r (nI_1 r) (go (_, b) fin)))
      · rw [e] at fin ⊢
        exact br_f gb_10 (nm_e (nm_r (nI_1 r) (go (_, b) fin)))
def gx_bf (a : Nat → Int32) (t : Nat) : Bool := bt (a (t / 32)) (t % 32)
theorem gx_bf_lt {a b : Nat → Int32} {M : Nat} (hm : ∀ c j, bt (a c) j = true → bt (b c) j = true) {c j : Nat} (hc : c < M) (hj : j < 32) (h0 : bt (a c) j = false) (h1 : bt (b c) j = true) :
    gs_cn (gx_bf a) (M * 32) < gs_cn (gx_bf b) (M * 32) := by
  have e1 : (c * 32 + j) / 32 = c := by omega
  have e2 : (c * 32 + j) % 32 = j := by omega
  refine gs_cn_lt (M * 32) (fun t _ h => hm _ _ h) (c * 32 + j) (by omega) ?_ ?_
  · show bt (a ((c * 32 + j) / 32)) ((c * 32 + j) % 32) = false
    rw [e1, e2]; exact h0
  · show bt (b ((c * 32 + j) / 32)) ((c * 32 + j) % 32) = true
    rw [e1, e2]; exact h1
theorem gx_T_of {a : Nat → Int32} (hs : ∀ k i j, gx_M g a k i j → gs_Der g k i j) (hc : gs_cl g (gx_M g a)) : gx_T g a := by
  intro k i j hk hi hj
  have h1 := gs_Der_iff hs hc k i j
  exact ⟨fun e => h1.mp ⟨hk, hi, hj, e⟩, fun e => (h1.mpr e).2.2.2⟩
theorem gx_r6 (C : gx_C g f_present f_n a_kindOf a_lengthOf a_symbolOf a_word) {post : SX → Prop} (hp : ∀ a, gx_T g a → post (f_present, f_n, f_keptLength, f_pairs, f_first, f_waiting, a_kindOf, a_lengthOf, a_symbolOf, a_word, a_kept, a, a_other, a_byLength, a_above, a_firstHalf, a_secondHalf, a_wholeOf, a_begun, a_fact, a_open, a_waitWhat, a_waitFrom, a_waitTo, a_callers, a_back, a_least)) :
    ∀ d z a, (∀ k i j, gx_M g a k i j → gs_Der g k i j) → (z = 0 → gs_cl g (gx_M g a)) → 1760 - gs_cn (gx_bf a) (55 * 32) < d → ∀ n, d < n → wX_solveByRows_6 post n z f_present f_n f_keptLength f_pairs f_first f_waiting a_kindOf a_lengthOf a_symbolOf a_word a_kept a a_other a_byLength a_above a_firstHalf a_secondHalf a_wholeOf a_begun a_fact a_open a_waitWhat a_waitFrom a_waitTo a_callers a_back a_least := by
  intro d
  induction d with
  | zero => intro z a _ _ hd; omega
  | succ d ih =>
    intro z a hs hc hd n hn
    obtain ⟨m, rfl⟩ : ∃ m, n = m + 1 := ⟨n - 1, by omega⟩
    refine br_c (fun e => hp a (gx_T_of hs (hc e))) (fun e => gx_r14 (a_made := a) C hs (fun z' a' y => ?_))
    rcases y.2.2 with ⟨e1, e2, e3⟩ | ⟨e1, c, hc1, j, hj, h0, h1⟩
    · rw [e1, e2]
      obtain ⟨k, rfl⟩ : ∃ k, m = k + 1 := ⟨m - 1, by omega⟩
      exact br_t rfl (hp a (gx_T_of hs e3))
    · refine ih z' a' y.1 (fun e => absurd (e1.symm.trans e) (by decide)) ?_ m (by omega)
      have h1 := gx_bf_lt y.2.1 hc1 hj h0 h1
      have h2 := gs_cn_le (gx_bf a') (55 * 32)
      omega
theorem gx_eng3 (C : gx_C g f_present f_n a_kindOf a_lengthOf a_symbolOf a_word) {post : SX → Prop} (hp : ∀ a, gx_T g a → post (f_present, f_n, f_keptLength, f_pairs, f_first, f_waiting, a_kindOf, a_lengthOf, a_symbolOf, a_word, a_kept, a, a_other, a_byLength, a_above, a_firstHalf, a_secondHalf, a_wholeOf, a_begun, a_fact, a_open, a_waitWhat, a_waitFrom, a_waitTo, a_callers, a_back, a_least)) : wpX_solveByRows post (f_present, f_n, f_keptLength, f_pairs, f_first, f_waiting, a_kindOf, a_lengthOf, a_symbolOf, a_word, a_kept, a_made, a_other, a_byLength, a_above, a_firstHalf, a_secondHalf, a_wholeOf, a_begun, a_fact, a_open, a_waitWhat, a_waitFrom, a_waitTo, a_callers, a_back, a_least) := by
  have hN := gs_N10 C.1
  refine gx_clear (fun a ha => ⟨2000, gx_r6 C hp 1762 1 a ?_ (fun e => absurd e (by decide)) (by omega) _ (by omega)⟩)
  rintro k i j ⟨h1, h2, h3, h4⟩
  rw [ha _ (by omega), b_0] at h4
  exact absurd h4 (by decide)
end
end
section
/-! what waits: the items that were ever put in, by their number (the ring is never full) -/
abbrev gq_s : Type := Int32 × (Nat → Int32) × (Nat → Int32) × (Nat → Int32) × (Nat → Int32) × (Nat → Int32) × Nat × (Nat → Nat × Nat × Nat)
def gq_tot (s : gq_s) : Nat := s.2.2.2.2.2.2.1
def gq_h (s : gq_s) : Nat → Nat × Nat × Nat := s.2.2.2.2.2.2.2
def gq_mem (s : gq_s) (p : Nat × Nat × Nat) : Prop := ∃ t, t < gq_tot s ∧ gq_h s t = p
def gq_le (s s' : gq_s) : Prop := gq_tot s ≤ gq_tot s' ∧ ∀ t, t < gq_tot s → gq_h s' t = gq_h s t
theorem gq_le_rf (s : gq_s) : gq_le s s := ⟨Nat.le_refl _, fun _ _ => rfl⟩
theorem gq_le_tr {s s' s'' : gq_s} (a : gq_le s s') (b : gq_le s' s'') : gq_le s s'' :=
  ⟨Nat.le_trans a.1 b.1, fun t ht => (b.2 t (Nat.lt_of_lt_of_le ht a.1)).trans (a.2 t ht)⟩
theorem gq_mem_le {s s' : gq_s} {p : Nat × Nat × Nat} (a : gq_le s s') (h : gq_mem s p) : gq_mem s' p := by
  obtain ⟨t, ht, e⟩ := h
  exact ⟨t, Nat.lt_of_lt_of_le ht a.1, (a.2 t ht).trans e⟩
def gq_it (p : Nat × Nat × Nat) : Prop := p.1 < 72 ∧ p.2.1 ≤ p.2.2 ∧ p.2.2 ≤ 10
def gq_code (p : Nat × Nat × Nat) : Nat := 111 * p.1 + (if p.2.2 = 0 then 110 else 11 * (p.2.2 - 1) + p.2.1)
theorem gq_code_lt {p : Nat × Nat × Nat} (h : gq_it p) : gq_code p < 7992 := by
  obtain ⟨a, b, c⟩ := p
  obtain ⟨h1, h2, h3⟩ := h
  show 111 * a + (if c = 0 then 110 else 11 * (c - 1) + b) < 7992
  have h1' : a < 72 := h1
  have h2' : b ≤ c := h2
  have h3' : c ≤ 10 := h3
  split <;> omega
theorem gq_ar111 {a a' v v' : Nat} (h : v < 111) (h' : v' < 111) (e : 111 * a + v = 111 * a' + v') : a = a' ∧ v = v' := by omega
theorem gq_ar11 {a a' v v' : Nat} (h : v < 11) (h' : v' < 11) (e : 11 * a + v = 11 * a' + v') : a = a' ∧ v = v' := by omega
theorem gq_code_inj {p q : Nat × Nat × Nat} (h : gq_it p) (k : gq_it q) (e : gq_code p = gq_code q) : p = q := by
  obtain ⟨a, b, c⟩ := p
  obtain ⟨a', b', c'⟩ := q
  have h1 : a < 72 := h.1
  have h2 : b ≤ c := h.2.1
  have h3 : c ≤ 10 := h.2.2
  have k1 : a' < 72 := k.1
  have k2 : b' ≤ c' := k.2.1
  have k3 : c' ≤ 10 := k.2.2
  have e1 : 111 * a + (if c = 0 then 110 else 11 * (c - 1) + b) = 111 * a' + (if c' = 0 then 110 else 11 * (c' - 1) + b') := e
  have this : a = a' ∧ b = b' ∧ c = c' := by
    by_cases z : c = 0
    · rw [if_pos z] at e1
      by_cases z' : c' = 0
      · rw [if_pos z'] at e1; omega
      · rw [if_neg z'] at e1
        have := gq_ar111 (v := 110) (v' := 11 * (c' - 1) + b') (by omega) (by omega) e1
        omega
    · rw [if_neg z] at e1
      by_cases z' : c' = 0
      · rw [if_pos z'] at e1
        have := gq_ar111 (v := 11 * (c - 1) + b) (v' := 110) (by omega) (by omega) e1
        omega
      · rw [if_neg z'] at e1
        have h1 := gq_ar111 (v := 11 * (c - 1) + b) (v' := 11 * (c' - 1) + b') (by omega) (by omega) e1
        have h2 := gq_ar11 (show b < 11 by omega) (show b' < 11 by omega) h1.2
        omega
  rw [this.1, this.2.1, this.2.2]
def gq_Q (fi : Nat) (s : gq_s) : Prop :=
  fi ≤ gq_tot s ∧ s.1 = nI (gq_tot s - fi) ∧
  (∀ t, t < gq_tot s → gq_it (gq_h s t) ∧ s.2.2.2.1 t = nI (gq_h s t).1 ∧ s.2.2.2.2.1 t = nI (gq_h s t).2.1 ∧ s.2.2.2.2.2.1 t = nI (gq_h s t).2.2) ∧
  (∀ t u, t < u → u < gq_tot s → gq_h s t ≠ gq_h s u)
theorem gq_few {fi : Nat} {s : gq_s} (Q : gq_Q fi s) : gq_tot s ≤ 7992 := by
  refine gs_pig 7992 (gq_tot s) (fun t => gq_code (gq_h s t)) (fun t ht => gq_code_lt (Q.2.2.1 t ht).1) (fun t u htu hu e => ?_)
  exact Q.2.2.2 t u htu hu (gq_code_inj (Q.2.2.1 t (by omega)).1 (Q.2.2.1 u hu).1 e)
def gq_push (s : gq_s) (p : Nat × Nat × Nat) : Nat → Nat × Nat × Nat := fun t => if t = gq_tot s then p else gq_h s t
section
variable {g : gs_G} {f_present f_n f_keptLength f_pairs f_first f_waiting : Int32} {a_kindOf a_lengthOf a_symbolOf a_word a_kept a_made a_other a_byLength a_above a_firstHalf a_secondHalf a_wholeOf a_begun a_fact a_open a_waitWhat a_waitFrom a_waitTo a_callers a_back a_least : Nat → Int32}
theorem gq_wait {fi : Nat} {s : gq_s} (Q : gq_Q fi s) {a b c : Nat} (hp : gq_it (a, b, c)) (hn : ¬ gq_mem s (a, b, c)) {post : SX → Prop}
    (h : ∀ ww wf wt, gq_Q fi (nI (gq_tot s + 1 - fi), s.2.1, s.2.2.1, ww, wf, wt, gq_tot s + 1, gq_push s (a, b, c)) →
      post (f_present, f_n, f_keptLength, f_pairs, (nI fi), (nI (gq_tot s + 1 - fi)), a_kindOf, a_lengthOf, a_symbolOf, a_word, a_kept, a_made, a_other, a_byLength, a_above, a_firstHalf, a_secondHalf, a_wholeOf, a_begun, s.2.1, s.2.2.1, ww, wf, wt, a_callers, a_back, a_least)) :
    wpX_wait post (f_present, f_n, f_keptLength, f_pairs, (nI fi), s.1, a_kindOf, a_lengthOf, a_symbolOf, a_word, a_kept, a_made, a_other, a_byLength, a_above, a_firstHalf, a_secondHalf, a_wholeOf, a_begun, s.2.1, s.2.2.1, s.2.2.2.1, s.2.2.2.2.1, s.2.2.2.2.2.1, a_callers, a_back, a_least) (nI a) (nI b) (nI c) := by
  have hf := gq_few Q
  have ha : a < 72 := hp.1
  have hb : b ≤ c := hp.2.1
  have hc : c ≤ 10 := hp.2.2
  have hfi := Q.1
  have e : (nI fi + s.1) &&& 8191 = nI (gq_tot s) := by
    rw [Q.2.1, nI_add, show fi + (gq_tot s - fi) = gq_tot s by omega, pk_andN (by omega) 13 (by decide), Nat.mod_eq_of_lt (by omega)]
  refine nm_r e (And.intro (vp_in_nI (by omega) (by decide)) ?_)
  rw [nI_clamp (by omega), gb_ns (by omega)]
  refine nm_e (And.intro (vp_in_nI (by omega) (by decide)) ?_)
  rw [gb_nb (by omega)]
  refine nm_e (And.intro (vp_in_nI (by omega) (by decide)) ?_)
  rw [gb_nb (by omega)]
  refine nm_e (nm_r (e' := nI (gq_tot s + 1 - fi)) (by rw [Q.2.1, nI_1]; exact congrArg nI (by omega)) (h _ _ _ ⟨?_, rfl, ?_, ?_⟩))
  · show fi ≤ gq_tot s + 1
    omega
  · intro t ht
    have ht' : t < gq_tot s + 1 := ht
    show gq_it (gq_push s (a, b, c) t) ∧ _ = nI (gq_push s (a, b, c) t).1 ∧ _ = nI (gq_push s (a, b, c) t).2.1 ∧ _ = nI (gq_push s (a, b, c) t).2.2
    by_cases e1 : t = gq_tot s
    · have e2 : gq_push s (a, b, c) t = (a, b, c) := if_pos e1
      rw [e2, e1]
      exact ⟨hp, pk_us, pk_us, pk_us⟩
    · have e2 : gq_push s (a, b, c) t = gq_h s t := if_neg e1
      rw [e2]
      have h1 := Q.2.2.1 t (by omega)
      exact ⟨h1.1, (pk_un e1).trans h1.2.1, (pk_un e1).trans h1.2.2.1, (pk_un e1).trans h1.2.2.2⟩
  · intro t u htu hu
    have hu' : u < gq_tot s + 1 := hu
    show gq_push s (a, b, c) t ≠ gq_push s (a, b, c) u
    have e2 : gq_push s (a, b, c) t = gq_h s t := if_neg (by omega)
    rw [e2]
    by_cases e1 : u = gq_tot s
    · have e3 : gq_push s (a, b, c) u = (a, b, c) := if_pos e1
      rw [e3]
      intro e4
      exact hn ⟨t, by omega, e4⟩
    · have e3 : gq_push s (a, b, c) u = gq_h s u := if_neg e1
      rw [e3]
      exact Q.2.2.2 t u htu (by omega)
/-- the state behind a push -/
def gq_put (fi : Nat) (s : gq_s) (p : Nat × Nat × Nat) (fa op ww wf wt : Nat → Int32) : gq_s :=
  (nI (gq_tot s + 1 - fi), fa, op, ww, wf, wt, gq_tot s + 1, gq_push s p)
theorem gq_put_le {fi : Nat} {s : gq_s} {p : Nat × Nat × Nat} {fa op ww wf wt : Nat → Int32} : gq_le s (gq_put fi s p fa op ww wf wt) :=
  ⟨Nat.le_succ _, fun t ht => if_neg (by omega)⟩
theorem gq_put_mem {fi : Nat} {s : gq_s} {p q : Nat × Nat × Nat} {fa op ww wf wt : Nat → Int32} : gq_mem (gq_put fi s p fa op ww wf wt) q ↔ gq_mem s q ∨ q = p := by
  constructor
  · rintro ⟨t, ht, e⟩
    have ht' : t < gq_tot s + 1 := ht
    have e' : (if t = gq_tot s then p else gq_h s t) = q := e
    by_cases e1 : t = gq_tot s
    · rw [if_pos e1] at e'
      exact Or.inr e'.symm
    · rw [if_neg e1] at e'
      exact Or.inl ⟨t, by omega, e'⟩
  · rintro (h | h)
    · exact gq_mem_le gq_put_le h
    · exact ⟨gq_tot s, Nat.lt_succ_self _, (if_pos rfl).trans h.symm⟩
end
end
section
/-! engine 4: calls that come back -/
def g4_S (g : gs_G) (p : Nat × Nat × Nat) : Prop :=
  p.1 < 64 ∧ gs_H g (p.1 / 4) = true ∧ p.1 % 4 ≤ gs_L g (p.1 / 4) ∧ p.2.1 ≤ p.2.2 ∧ p.2.2 ≤ gs_N g ∧ gs_pre g (gs_Der g) (p.1 / 4) p.2.1 (p.1 % 4) p.2.2
def g4_O (g : gs_G) (fi : Nat) (s : gq_s) : Prop :=
  gq_Q fi s ∧ (∀ st f t, st < 64 → f ≤ 10 → t < 32 → (bt (s.2.2.1 (f * 64 + st)) t = true ↔ gq_mem s (st, f, t))) ∧ (∀ p, gq_mem s p → g4_S g p)
/-- the next symbol of a state is made -/
theorem g4_S_next {g : gs_G} (ok : gs_ok g) {st f m t : Nat} (h : g4_S g (st, f, m)) (hd : st % 4 < gs_L g (st / 4)) (hc : gs_cov g (gs_Der g) (gs_S g (st / 4) (st % 4)) m t) : g4_S g (st + 1, f, t) := by
  have h1 : st < 64 := h.1
  have hr : st / 4 < 16 := by omega
  have hL := gs_L3 ok hr
  have e1 : (st + 1) / 4 = st / 4 := by omega
  have e2 : (st + 1) % 4 = st % 4 + 1 := by omega
  have rg := gs_cov_rng (fun _ _ _ c => gs_Der_rng c) hc
  have h4 : f ≤ m := h.2.2.2.1
  refine ⟨show st + 1 < 64 by omega, ?_, ?_, show f ≤ t by omega, rg.2, ?_⟩
  · show gs_H g ((st + 1) / 4) = true
    rw [e1]; exact h.2.1
  · show (st + 1) % 4 ≤ gs_L g ((st + 1) / 4)
    rw [e1, e2]; omega
  · show gs_pre g (gs_Der g) ((st + 1) / 4) f ((st + 1) % 4) t
    rw [e1, e2]
    exact ⟨m, h.2.2.2.2.2, hc⟩
section
variable {g : gs_G} {f_present f_n f_keptLength f_pairs f_first f_waiting : Int32} {a_kindOf a_lengthOf a_symbolOf a_word a_kept a_made a_other a_byLength a_above a_firstHalf a_secondHalf a_wholeOf a_begun a_fact a_open a_waitWhat a_waitFrom a_waitTo a_callers a_back a_least : Nat → Int32}
theorem g4_goOn (hN : gs_N g ≤ 10) {fi : Nat} {s : gq_s} (O : g4_O g fi s) {st f t : Nat} (S : g4_S g (st, f, t)) {post : SX → Prop}
    (h : ∀ s', g4_O g fi s' → gq_le s s' → gq_mem s' (st, f, t) → post (f_present, f_n, f_keptLength, f_pairs, (nI fi), s'.1, a_kindOf, a_lengthOf, a_symbolOf, a_word, a_kept, a_made, a_other, a_byLength, a_above, a_firstHalf, a_secondHalf, a_wholeOf, a_begun, s'.2.1, s'.2.2.1, s'.2.2.2.1, s'.2.2.2.2.1, s'.2.2.2.2.2.1, a_callers, a_back, a_least)) :
    wpX_goOn post (f_present, f_n, f_keptLength, f_pairs, (nI fi), s.1, a_kindOf, a_lengthOf, a_symbolOf, a_word, a_kept, a_made, a_other, a_byLength, a_above, a_firstHalf, a_secondHalf, a_wholeOf, a_begun, s.2.1, s.2.2.1, s.2.2.2.1, s.2.2.2.2.1, s.2.2.2.2.2.1, a_callers, a_back, a_least) (nI st) (nI f) (nI t) := by
  have h1 : st < 64 := S.1
  have h2 : f ≤ t := S.2.2.2.1
  have h3 : t ≤ gs_N g := S.2.2.2.2.1
  refine nm_r (ix_64 f st) (And.intro (vp_in_nI (by omega) (by decide)) ?_)
  rw [nI_clamp (by omega)]
  refine gb_br t (fun c => ?_) (fun c => ?_)
  · refine And.intro (vp_in_nI (by omega) (by decide)) (And.intro (vp_in_nI (by omega) (by decide)) (nm_e ?_))
    have hn : ¬ gq_mem s (st, f, t) := fun m => by
      have := (O.2.1 st f t h1 (by omega) (by omega)).mpr m
      rw [c] at this
      exact absurd this (by decide)
    refine gq_wait (s := (s.1, s.2.1, upd s.2.2.1 (f * 64 + st) (s.2.2.1 (f * 64 + st) ||| ((1 : Int32) <<< (nI t &&& 31))), s.2.2.2)) O.1 (show gq_it (st, f, t) from ⟨show st < 72 by omega, h2, show t ≤ 10 by omega⟩) hn (fun ww wf wt Q => ?_)
    refine h (gq_put fi s (st, f, t) s.2.1 (upd s.2.2.1 (f * 64 + st) (s.2.2.1 (f * 64 + st) ||| ((1 : Int32) <<< (nI t &&& 31)))) ww wf wt) ⟨Q, ?_, ?_⟩ gq_put_le (gq_put_mem.mpr (Or.inr rfl))
    · intro st' f' t' k1 k2 k3
      rw [gq_put_mem, ← O.2.1 st' f' t' k1 k2 k3]
      refine (gx_bup _ _).trans (or_congr Iff.rfl ?_)
      rw [gb_one (by omega) k3, decide_eq_true_eq]
      constructor
      · rintro ⟨e1, e2⟩
        have e3 : st' = st := by omega
        have e4 : f' = f := by omega
        rw [e2, e3, e4]
      · intro e
        injection e with e1 e2
        injection e2 with e2 e3
        exact ⟨by rw [e1, e2], e3⟩
    · intro p hp
      rcases gq_put_mem.mp hp with hp | hp
      · exact O.2.2 p hp
      · rw [hp]; exact S
  · exact h s O (gq_le_rf s) ((O.2.1 st f t h1 (by omega) (by omega)).mp c)
/-! who called; where calls came back -/
def g4_CL (ca : Nat → Int32) (k p st f : Nat) : Prop := k < 5 ∧ p ≤ 10 ∧ st < 64 ∧ f < 32 ∧ bt (ca ((k * 11 + p) * 64 + st)) f = true
def g4_BK (ba : Nat → Int32) (k f t : Nat) : Prop := k < 5 ∧ f ≤ 10 ∧ t < 32 ∧ bt (ba (k * 11 + f)) t = true
def g4_cs (g : gs_G) (s : gq_s) (ca : Nat → Int32) : Prop := ∀ k p st f, g4_CL ca k p st f → gq_mem s (st, f, p) ∧ st % 4 < gs_L g (st / 4) ∧ gs_S g (st / 4) (st % 4) = k
def g4_bs (g : gs_G) (ba : Nat → Int32) : Prop := ∀ k f t, g4_BK ba k f t → gs_Der g k f t
def g4_x (s : gq_s) (ca ba : Nat → Int32) : Prop := ∀ k p st f t, g4_CL ca k p st f → g4_BK ba k p t → gq_mem s (st + 1, f, t)
theorem g4_cs_le {s s' : gq_s} {ca : Nat → Int32} (l : gq_le s s') (h : g4_cs g s ca) : g4_cs g s' ca := fun k p st f c => ⟨gq_mem_le l (h k p st f c).1, (h k p st f c).2⟩
theorem g4_cb64 (hN : gs_N g ≤ 10) {fi : Nat} {s : gq_s} (O : g4_O g fi s) {post : SX → Prop} {J39 : Int32 → Int32 → Int32 → Int32 → Int32 → Int32 → Int32 → (Nat → Int32) → (Nat → Int32) → (Nat → Int32) → (Nat → Int32) → (Nat → Int32) → (Nat → Int32) → (Nat → Int32) → (Nat → Int32) → (Nat → Int32) → (Nat → Int32) → (Nat → Int32) → (Nat → Int32) → (Nat → Int32) → (Nat → Int32) → (Nat → Int32) → (Nat → Int32) → (Nat → Int32) → (Nat → Int32) → (Nat → Int32) → (Nat → Int32) → (Nat → Int32) → Prop} {fr t st : Nat} {x4 pl : Int32} (hf : fr ≤ 10)
    (hp : ∀ f, f < 32 → bt pl f = true → f ≤ fr ∧ g4_S g (st + 1, f, t))
    (hJ : ∀ s', g4_O g fi s' → gq_le s s' → (∀ f, f < 32 → bt pl f = true → gq_mem s' (st + 1, f, t)) → J39 (nI (st + 1)) f_present f_n f_keptLength f_pairs (nI fi) s'.1 a_kindOf a_lengthOf a_symbolOf a_word a_kept a_made a_other a_byLength a_above a_firstHalf a_secondHalf a_wholeOf a_begun s'.2.1 s'.2.2.1 s'.2.2.2.1 s'.2.2.2.2.1 s'.2.2.2.2.2.1 a_callers a_back a_least) :
    ∃ n, wX_comeBack_64 post J39 (nI fr) (nI t) x4 (nI st) pl n 0 f_present f_n f_keptLength f_pairs (nI fi) s.1 a_kindOf a_lengthOf a_symbolOf a_word a_kept a_made a_other a_byLength a_above a_firstHalf a_secondHalf a_wholeOf a_begun s.2.1 s.2.2.1 s.2.2.2.1 s.2.2.2.2.1 s.2.2.2.2.2.1 a_callers a_back a_least := by
  refine gl_ex (fun n f (s : gq_s) => wX_comeBack_64 post J39 (nI fr) (nI t) x4 (nI st) pl n (nI f) f_present f_n f_keptLength f_pairs (nI fi) s.1 a_kindOf a_lengthOf a_symbolOf a_word a_kept a_made a_other a_byLength a_above a_firstHalf a_secondHalf a_wholeOf a_begun s.2.1 s.2.2.1 s.2.2.2.1 s.2.2.2.2.1 s.2.2.2.2.2.1 a_callers a_back a_least)
    (fun f s' => g4_O g fi s' ∧ gq_le s s' ∧ (∀ f', f' < f → bt pl f' = true → gq_mem s' (st + 1, f', t))) (fr + 1) 0 s (by omega) ⟨O, gq_le_rf s, fun f' h => absurd h (by omega)⟩ ?_ ?_
  · rintro n s' ⟨O', l, m⟩
    exact br_t (nI_lt (by omega) (by omega)) (nm_r (nI_1 st) (hJ s' O' l (fun f hf' hb => m f (by have := (hp f hf' hb).1; omega) hb)))
  · rintro n f s' hfr ⟨O', l, m⟩ go
    refine br_f (nI_nlt (by omega) (by omega)) (br_c (fun z => nm_r (nI_1 st) (hJ s' O' l (fun f' hf' hb => ?_))) (fun z => gb_br f (fun c => nm_r (nI_1 f) (go s' ⟨O', l, fun f' hf' hb => ?_⟩)) (fun c => ?_)))
    · rw [z, b_0] at hb; exact absurd hb (by decide)
    · by_cases e : f' = f
      · rw [e, c] at hb; exact absurd hb (by decide)
      · exact m f' (by omega) hb
    · rw [nI_1 st]
      refine g4_goOn hN O' (hp f (by omega) c).2 (fun s'' O'' l' m' => nm_r (nI_1 f) (go s'' ⟨O'', gq_le_tr l l', fun f' hf' hb => ?_⟩))
      by_cases e : f' = f
      · rw [e]; exact m'
      · exact gq_mem_le l' (m f' (by omega) hb)
theorem g4_cb39 (ok : gs_ok g) {fi : Nat} {s : gq_s} (O : g4_O g fi s) {post : SX → Prop} {k fr t : Nat} (hk : k < 5) (ht : t ≤ gs_N g) (hf : fr ≤ t) (hd : gs_Der g k fr t) (hc : g4_cs g s a_callers)
    (hp : ∀ s', g4_O g fi s' → gq_le s s' → (∀ st f, g4_CL a_callers k fr st f → gq_mem s' (st + 1, f, t)) → post (f_present, f_n, f_keptLength, f_pairs, (nI fi), s'.1, a_kindOf, a_lengthOf, a_symbolOf, a_word, a_kept, a_made, a_other, a_byLength, a_above, a_firstHalf, a_secondHalf, a_wholeOf, a_begun, s'.2.1, s'.2.2.1, s'.2.2.2.1, s'.2.2.2.2.1, s'.2.2.2.2.2.1, a_callers, a_back, a_least)) :
    ∃ n, wX_comeBack_39 post (nI fr) (nI t) (nI (k * 11 + fr)) n 0 f_present f_n f_keptLength f_pairs (nI fi) s.1 a_kindOf a_lengthOf a_symbolOf a_word a_kept a_made a_other a_byLength a_above a_firstHalf a_secondHalf a_wholeOf a_begun s.2.1 s.2.2.1 s.2.2.2.1 s.2.2.2.2.1 s.2.2.2.2.2.1 a_callers a_back a_least := by
  have hN := gs_N10 ok
  refine gl_ex (fun n st (s : gq_s) => wX_comeBack_39 post (nI fr) (nI t) (nI (k * 11 + fr)) n (nI st) f_present f_n f_keptLength f_pairs (nI fi) s.1 a_kindOf a_lengthOf a_symbolOf a_word a_kept a_made a_other a_byLength a_above a_firstHalf a_secondHalf a_wholeOf a_begun s.2.1 s.2.2.1 s.2.2.2.1 s.2.2.2.2.1 s.2.2.2.2.2.1 a_callers a_back a_least)
    (fun st s' => g4_O g fi s' ∧ gq_le s s' ∧ (∀ st' f, st' < st → g4_CL a_callers k fr st' f → gq_mem s' (st' + 1, f, t))) 64 0 s (by omega) ⟨O, gq_le_rf s, fun st' f h => absurd h (by omega)⟩ ?_ ?_
  · rintro n s' ⟨O', l, m⟩
    exact br_t (nI_le (a := 64) (by omega) (by omega)) (hp s' O' l (fun st f c => m st f c.2.2.1 c))
  · rintro n st s' hst ⟨O', l, m⟩ go
    refine br_f (nI_ge (b := 64) (by omega) (by omega)) ?_
    refine And.intro (by rw [ix_64]; exact vp_in_nI (by omega) (by decide)) ?_
    rw [ix_64, nI_clamp (by omega)]
    refine nm_e (g4_cb64 hN O' (by omega) (fun f hf' hb => ?_) (fun s'' O'' l' m' => go s'' ⟨O'', gq_le_tr l l', fun st' f hst' c => ?_⟩))
    · have c : g4_CL a_callers k fr st f := ⟨hk, by omega, hst, hf', hb⟩
      have h1 := hc k fr st f c
      have h2 := O.2.2 _ h1.1
      refine ⟨h2.2.2.2.1, g4_S_next ok h2 h1.2.1 ?_⟩
      rw [h1.2.2]
      exact Or.inl ⟨hk, hd⟩
    · by_cases e : st' = st
      · rw [e] at c ⊢
        exact m' f c.2.2.2.1 c.2.2.2.2
      · exact gq_mem_le l' (m st' f (by omega) c)
theorem g4_comeBack (ok : gs_ok g) {fi : Nat} {s : gq_s} (O : g4_O g fi s) {post : SX → Prop} {k fr t : Nat} (hk : k < 5) (hd : gs_Der g k fr t) (hc : g4_cs g s a_callers) (hb : g4_bs g a_back) (hx : g4_x s a_callers a_back)
    (hp : ∀ s' ba, g4_O g fi s' → gq_le s s' → g4_cs g s' a_callers → g4_bs g ba → g4_x s' a_callers ba → (∀ k f t, g4_BK a_back k f t → g4_BK ba k f t) → g4_BK ba k fr t → post (f_present, f_n, f_keptLength, f_pairs, (nI fi), s'.1, a_kindOf, a_lengthOf, a_symbolOf, a_word, a_kept, a_made, a_other, a_byLength, a_above, a_firstHalf, a_secondHalf, a_wholeOf, a_begun, s'.2.1, s'.2.2.1, s'.2.2.2.1, s'.2.2.2.2.1, s'.2.2.2.2.2.1, a_callers, ba, a_least)) :
    wpX_comeBack post (f_present, f_n, f_keptLength, f_pairs, (nI fi), s.1, a_kindOf, a_lengthOf, a_symbolOf, a_word, a_kept, a_made, a_other, a_byLength, a_above, a_firstHalf, a_secondHalf, a_wholeOf, a_begun, s.2.1, s.2.2.1, s.2.2.2.1, s.2.2.2.2.1, s.2.2.2.2.2.1, a_callers, a_back, a_least) (nI k) (nI fr) (nI t) := by
  have hN := gs_N10 ok
  have rg := gs_Der_rng hd
  refine nm_r (ix_11 k fr) (And.intro (vp_in_nI (by omega) (by decide)) ?_)
  rw [nI_clamp (by omega)]
  refine gb_br t (fun c => ?_) (fun c => ?_)
  · refine And.intro (vp_in_nI (by omega) (by decide)) (And.intro (vp_in_nI (by omega) (by decide)) (nm_e ?_))
    have bk : ∀ k' f' t', g4_BK (upd a_back (k * 11 + fr) (a_back (k * 11 + fr) ||| ((1 : Int32) <<< (nI t &&& 31)))) k' f' t' ↔ g4_BK a_back k' f' t' ∨ (k' = k ∧ f' = fr ∧ t' = t) := by
      intro k' f' t'
      constructor
      · rintro ⟨h1, h2, h3, h4⟩
        rcases (gx_bup _ _).mp h4 with h4 | ⟨e, h4⟩
        · exact Or.inl ⟨h1, h2, h3, h4⟩
        · rw [gb_one (by omega) h3, decide_eq_true_eq] at h4
          exact Or.inr ⟨by omega, by omega, h4⟩
      · rintro (⟨h1, h2, h3, h4⟩ | ⟨e1, e2, e3⟩)
        · exact ⟨h1, h2, h3, (gx_bup _ _).mpr (Or.inl h4)⟩
        · rw [e1, e2, e3]
          exact ⟨hk, by omega, by omega, (gx_bup _ _).mpr (Or.inr ⟨rfl, by rw [gb_one (by omega) (by omega)]; simp⟩)⟩
    refine g4_cb39 ok O hk rg.2 rg.1 hd hc (fun s' O' l m => hp s' _ O' l (g4_cs_le l hc) ?_ ?_ ?_ ((bk k fr t).mpr (Or.inr ⟨rfl, rfl, rfl⟩)))
    · intro k' f' t' h
      rcases (bk k' f' t').mp h with h | ⟨e1, e2, e3⟩
      · exact hb k' f' t' h
      · rw [e1, e2, e3]; exact hd
    · intro k' p st f t' cl h
      rcases (bk k' p t').mp h with h | ⟨e1, e2, e3⟩
      · exact gq_mem_le l (hx k' p st f t' cl h)
      · rw [e1, e2] at cl
        rw [e3]
        exact m st f cl
    · intro k' f' t' h
      exact (bk k' f' t').mpr (Or.inl h)
  · exact hp s a_back O (gq_le_rf s) hc hb hx (fun _ _ _ h => h) ⟨hk, by omega, by omega, c⟩
theorem g4_call (ok : gs_ok g) (hn : f_n = nI (gs_N g)) {fi : Nat} {s : gq_s} (O : g4_O g fi s) {post : SX → Prop} {k p st f : Nat} (hk : k < 5) (hm : gq_mem s (st, f, p)) (hd : st % 4 < gs_L g (st / 4)) (hS : gs_S g (st / 4) (st % 4) = k)
    (hc : g4_cs g s a_callers) (hb : g4_bs g a_back) (hx : g4_x s a_callers a_back)
    (hp : ∀ s' ca, g4_O g fi s' → gq_le s s' → g4_cs g s' ca → g4_x s' ca a_back → (∀ k p st f, g4_CL a_callers k p st f → g4_CL ca k p st f) → g4_CL ca k p st f → post (f_present, f_n, f_keptLength, f_pairs, (nI fi), s'.1, a_kindOf, a_lengthOf, a_symbolOf, a_word, a_kept, a_made, a_other, a_byLength, a_above, a_firstHalf, a_secondHalf, a_wholeOf, a_begun, s'.2.1, s'.2.2.1, s'.2.2.2.1, s'.2.2.2.2.1, s'.2.2.2.2.2.1, ca, a_back, a_least)) :
    wpX_call post (f_present, f_n, f_keptLength, f_pairs, (nI fi), s.1, a_kindOf, a_lengthOf, a_symbolOf, a_word, a_kept, a_made, a_other, a_byLength, a_above, a_firstHalf, a_secondHalf, a_wholeOf, a_begun, s.2.1, s.2.2.1, s.2.2.2.1, s.2.2.2.2.1, s.2.2.2.2.2.1, a_callers, a_back, a_least) (nI k) (nI p) (nI st) (nI f) := by
  have hN := gs_N10 ok
  have S := O.2.2 _ hm
  have h1 : st < 64 := S.1
  have h2 : f ≤ p := S.2.2.2.1
  have h3 : p ≤ gs_N g := S.2.2.2.2.1
  subst hn
  refine nm_r (ix_11 k p) (nm_r (ix_64 _ st) (And.intro (vp_in_nI (by omega) (by decide)) ?_))
  rw [nI_clamp (by omega)]
  refine gb_br f (fun c => ?_) (fun c => ?_)
  · refine And.intro (vp_in_nI (by omega) (by decide)) (And.intro (vp_in_nI (by omega) (by decide)) (nm_e ?_))
    have bk : ∀ k' p' st' f', g4_CL (upd a_callers ((k * 11 + p) * 64 + st) (a_callers ((k * 11 + p) * 64 + st) ||| ((1 : Int32) <<< (nI f &&& 31)))) k' p' st' f' ↔ g4_CL a_callers k' p' st' f' ∨ (k' = k ∧ p' = p ∧ st' = st ∧ f' = f) := by
      intro k' p' st' f'
      constructor
      · rintro ⟨h1, h2, h3, h4, h5⟩
        rcases (gx_bup _ _).mp h5 with h5 | ⟨e, h5⟩
        · exact Or.inl ⟨h1, h2, h3, h4, h5⟩
        · rw [gb_one (by omega) h4, decide_eq_true_eq] at h5
          exact Or.inr ⟨by omega, by omega, by omega, h5⟩
      · rintro (⟨h1, h2, h3, h4, h5⟩ | ⟨e1, e2, e3, e4⟩)
        · exact ⟨h1, h2, h3, h4, (gx_bup _ _).mpr (Or.inl h5)⟩
        · rw [e1, e2, e3, e4]
          exact ⟨hk, by omega, by omega, by omega, (gx_bup _ _).mpr (Or.inr ⟨rfl, by rw [gb_one (by omega) (by omega)]; simp⟩)⟩
    refine gl_ex (fun n t (s : gq_s) => wX_call_49 post (nI st) (nI f) (nI (k * 11 + p)) n (nI t) f_present (nI (gs_N g)) f_keptLength f_pairs (nI fi) s.1 a_kindOf a_lengthOf a_symbolOf a_word a_kept a_made a_other a_byLength a_above a_firstHalf a_secondHalf a_wholeOf a_begun s.2.1 s.2.2.1 s.2.2.2.1 s.2.2.2.2.1 s.2.2.2.2.2.1 (upd a_callers ((k * 11 + p) * 64 + st) (a_callers ((k * 11 + p) * 64 + st) ||| ((1 : Int32) <<< (nI f &&& 31)))) a_back a_least)
      (fun t s' => g4_O g fi s' ∧ gq_le s s' ∧ (∀ t', t' < t → g4_BK a_back k p t' → gq_mem s' (st + 1, f, t'))) (gs_N g + 1) p s (by omega) ⟨O, gq_le_rf s, fun t' h c => absurd (gs_Der_rng (hb _ _ _ c)).1 (by omega)⟩ ?_ ?_
    · rintro n s' ⟨O', l, m⟩
      refine br_t (nI_lt (by omega) (by omega)) (hp s' _ O' l ?_ ?_ (fun k p st f h => (bk k p st f).mpr (Or.inl h)) ((bk k p st f).mpr (Or.inr ⟨rfl, rfl, rfl, rfl⟩)))
      · intro k' p' st' f' h
        rcases (bk k' p' st' f').mp h with h | ⟨e1, e2, e3, e4⟩
        · exact g4_cs_le l hc k' p' st' f' h
        · rw [e1, e2, e3, e4]
          exact ⟨gq_mem_le l hm, hd, hS⟩
      · intro k' p' st' f' t' h hb'
        rcases (bk k' p' st' f').mp h with h | ⟨e1, e2, e3, e4⟩
        · exact gq_mem_le l (hx k' p' st' f' t' h hb')
        · rw [e1, e2] at hb'
          rw [e3, e4]
          exact m t' (by have := (gs_Der_rng (hb _ _ _ hb')).2; omega) hb'
    · rintro n t s' ht ⟨O', l, m⟩ go
      refine br_f (nI_nlt (by omega) (by omega)) (And.intro (vp_in_nI (by omega) (by decide)) ?_)
      rw [nI_clamp (by omega)]
      refine gb_br t (fun c => nm_r (nI_1 t) (go s' ⟨O', l, fun t' ht' h => ?_⟩)) (fun c => ?_)
      · by_cases e : t' = t
        · rw [e] at h
          have := h.2.2.2
          rw [c] at this
          exact absurd this (by decide)
        · exact m t' (by omega) h
      · have bkt : g4_BK a_back k p t := ⟨hk, by omega, by omega, c⟩
        rw [nI_1 st]
        refine g4_goOn hN O' (g4_S_next ok S hd (by rw [hS]; exact Or.inl ⟨hk, hb _ _ _ bkt⟩)) (fun s'' O'' l' m' => nm_r (nI_1 t) (go s'' ⟨O'', gq_le_tr l l', fun t' ht' h => ?_⟩))
        by_cases e : t' = t
        · rw [e]; exact m'
        · exact gq_mem_le l' (m t' (by omega) h)
  · exact hp s a_callers O (gq_le_rf s) hc hx (fun _ _ _ _ h => h) ⟨hk, by omega, by omega, by omega, c⟩
end
end
section
/-! engine 4: the rest -/
def g4_D (g : gs_G) (s : gq_s) (ca ba : Nat → Int32) (p : Nat × Nat × Nat) : Prop :=
  (p.1 % 4 = gs_L g (p.1 / 4) → g4_BK ba (gs_K g (p.1 / 4)) p.2.1 p.2.2) ∧
  (p.1 % 4 < gs_L g (p.1 / 4) → gs_S g (p.1 / 4) (p.1 % 4) < 5 → g4_CL ca (gs_S g (p.1 / 4) (p.1 % 4)) p.2.2 p.1 p.2.1) ∧
  (p.1 % 4 < gs_L g (p.1 / 4) → gs_let g (gs_S g (p.1 / 4) (p.1 % 4)) p.2.2 → gq_mem s (p.1 + 1, p.2.1, p.2.2 + 1))
theorem g4_D_le {g : gs_G} {s s' : gq_s} {ca ba ca' ba' : Nat → Int32} {p : Nat × Nat × Nat} (l : gq_le s s') (hc : ∀ k p st f, g4_CL ca k p st f → g4_CL ca' k p st f) (hb : ∀ k f t, g4_BK ba k f t → g4_BK ba' k f t) (h : g4_D g s ca ba p) : g4_D g s' ca' ba' p :=
  ⟨fun e => hb _ _ _ (h.1 e), fun e1 e2 => hc _ _ _ _ (h.2.1 e1 e2), fun e1 e2 => gq_mem_le l (h.2.2 e1 e2)⟩
def g4_J (g : gs_G) (fi : Nat) (s : gq_s) (ca ba : Nat → Int32) : Prop :=
  g4_O g fi s ∧ g4_cs g s ca ∧ g4_bs g ba ∧ g4_x s ca ba ∧ (∀ t, t < fi → g4_D g s ca ba (gq_h s t)) ∧ (∀ r i, r < 16 → gs_H g r = true → i ≤ gs_N g → gq_mem s (4 * r, i, i))
theorem g4_all {g : gs_G} (ok : gs_ok g) {fi : Nat} {s : gq_s} {ca ba : Nat → Int32} (J : g4_J g fi s ca ba) (hf : gq_tot s = fi) {r i : Nat} (hr : r < 16) (hh : gs_H g r = true) (hi : i ≤ gs_N g) :
    ∀ d m, d ≤ gs_L g r → gs_pre g (g4_BK ba) r i d m → gq_mem s (4 * r + d, i, m) := by
  have hL := gs_L3 ok hr
  intro d
  induction d with
  | zero => intro m _ h; have e : m = i := h; rw [e]; exact J.2.2.2.2.2 r i hr hh hi
  | succ d ih =>
    intro m hd h
    obtain ⟨m', h1, h2⟩ := h
    obtain ⟨t, ht, e⟩ := ih m' (by omega) h1
    have D := J.2.2.2.2.1 t (by omega)
    rw [e] at D
    have e1 : (4 * r + d) / 4 = r := by omega
    have e2 : (4 * r + d) % 4 = d := by omega
    have D2 : (4 * r + d) % 4 < gs_L g ((4 * r + d) / 4) → gs_S g ((4 * r + d) / 4) ((4 * r + d) % 4) < 5 → g4_CL ca (gs_S g ((4 * r + d) / 4) ((4 * r + d) % 4)) m' (4 * r + d) i := D.2.1
    have D3 : (4 * r + d) % 4 < gs_L g ((4 * r + d) / 4) → gs_let g (gs_S g ((4 * r + d) / 4) ((4 * r + d) % 4)) m' → gq_mem s (4 * r + d + 1, i, m' + 1) := D.2.2
    rw [e1, e2] at D2 D3
    rcases h2 with ⟨a, b⟩ | ⟨a, b, c, e⟩
    · exact J.2.2.2.1 _ _ _ _ _ (D2 (by omega) a) b
    · rw [b]
      exact D3 (by omega) ⟨a, c, e⟩
theorem g4_fin {g : gs_G} (ok : gs_ok g) {fi : Nat} {s : gq_s} {ca ba : Nat → Int32} (J : g4_J g fi s ca ba) (hf : gq_tot s = fi) {a : Nat → Int32} (ha : ∀ c, c < 55 → a c = ba c) : gx_T g a := by
  have hN := gs_N10 ok
  have hc : gs_cl g (g4_BK ba) := by
    intro r hr hh i j hi hp
    have hL := gs_L3 ok hr
    obtain ⟨t, ht, e⟩ := g4_all ok J hf hr hh hi (gs_L g r) j (Nat.le_refl _) hp
    have D := J.2.2.2.2.1 t (by omega)
    rw [e] at D
    have e1 : (4 * r + gs_L g r) / 4 = r := by omega
    have e2 : (4 * r + gs_L g r) % 4 = gs_L g r := by omega
    have D1 : (4 * r + gs_L g r) % 4 = gs_L g ((4 * r + gs_L g r) / 4) → g4_BK ba (gs_K g ((4 * r + gs_L g r) / 4)) i j := D.1
    rw [e1, e2] at D1
    exact D1 rfl
  intro k i j hk hi hj
  rw [ha _ (by omega)]
  have h1 := gs_Der_iff (D := g4_BK ba) J.2.2.1 hc k i j
  exact ⟨fun e => h1.mp ⟨hk, by omega, hj, e⟩, fun e => (h1.mpr e).2.2.2⟩
section
variable {g : gs_G} {f_present f_n f_keptLength f_pairs f_first f_waiting : Int32} {a_kindOf a_lengthOf a_symbolOf a_word a_kept a_made a_other a_byLength a_above a_firstHalf a_secondHalf a_wholeOf a_begun a_fact a_open a_waitWhat a_waitFrom a_waitTo a_callers a_back a_least : Nat → Int32}
theorem g4_carryOn (C : gx_C g f_present f_n a_kindOf a_lengthOf a_symbolOf a_word) {fi : Nat} {s : gq_s} (O : g4_O g fi s) {post : SX → Prop} {st f t : Nat} (hm : gq_mem s (st, f, t))
    (hc : g4_cs g s a_callers) (hb : g4_bs g a_back) (hx : g4_x s a_callers a_back)
    (hp : ∀ s' ca ba, g4_O g fi s' → gq_le s s' → g4_cs g s' ca → g4_bs g ba → g4_x s' ca ba → (∀ k p st f, g4_CL a_callers k p st f → g4_CL ca k p st f) → (∀ k f t, g4_BK a_back k f t → g4_BK ba k f t) → g4_D g s' ca ba (st, f, t) →
      post (f_present, f_n, f_keptLength, f_pairs, (nI fi), s'.1, a_kindOf, a_lengthOf, a_symbolOf, a_word, a_kept, a_made, a_other, a_byLength, a_above, a_firstHalf, a_secondHalf, a_wholeOf, a_begun, s'.2.1, s'.2.2.1, s'.2.2.2.1, s'.2.2.2.2.1, s'.2.2.2.2.2.1, ca, ba, a_least)) :
    wpX_carryOn post (f_present, f_n, f_keptLength, f_pairs, (nI fi), s.1, a_kindOf, a_lengthOf, a_symbolOf, a_word, a_kept, a_made, a_other, a_byLength, a_above, a_firstHalf, a_secondHalf, a_wholeOf, a_begun, s.2.1, s.2.2.1, s.2.2.2.1, s.2.2.2.2.1, s.2.2.2.2.2.1, a_callers, a_back, a_least) (nI st) (nI f) (nI t) := by
  have ok := C.1
  have hN := gs_N10 ok
  have S := O.2.2 _ hm
  have h1 : st < 64 := S.1
  have h2 : f ≤ t := S.2.2.2.1
  have h3 : t ≤ gs_N g := S.2.2.2.2.1
  have h4 : gs_H g (st / 4) = true := S.2.1
  have h5 : st % 4 ≤ gs_L g (st / 4) := S.2.2.1
  have h6 : gs_pre g (gs_Der g) (st / 4) f (st % 4) t := S.2.2.2.2.2
  have hr : st / 4 < 16 := by omega
  have hL := gs_L3 ok hr
  refine And.intro ix_40 (nm_r (ix_d4 (by omega)) (And.intro ix_40 (And.intro (vp_in_nI hr (by decide)) ?_)))
  rw [nI_clamp (by omega), C.2.2.2.2.1 _ hr]
  refine pk_eq (st % 4) (gs_L g (st / 4)) (fun e => And.intro (vp_in_nI hr (by decide)) ?_) (fun e => And.intro ix_40 ?_) (ix_r4 (by omega))
  · rw [C.2.2.2.1 _ hr]
    have hd : gs_Der g (gs_K g (st / 4)) f t := gs_Der_cl g _ hr h4 f t (by omega) (by rw [← e]; exact h6)
    refine g4_comeBack ok O (gs_K5 ok hr) hd hc hb hx (fun s' ba O' l hc' hb' hx' mb nb => hp s' a_callers ba O' l hc' hb' hx' (fun _ _ _ _ h => h) mb ⟨fun _ => nb, fun c => ?_, fun c => ?_⟩)
    · have c' : st % 4 < gs_L g (st / 4) := c
      omega
    · have c' : st % 4 < gs_L g (st / 4) := c
      omega
  · rw [ix_r4 (by omega)]
    refine gx_sym C hr (by omega) ?_
    have h8 := gs_S8 ok hr (show st % 4 < 3 by omega)
    refine pk_le 5 (gs_S g (st / 4) (st % 4)) (fun s5 => ?_) (fun s5 => ?_)
    · refine gx_let C h8 h3 (fun z hz => gs_tf_br hz (fun no => ?_) (fun yes => ?_))
      · refine hp s a_callers a_back O (gq_le_rf s) hc hb hx (fun _ _ _ _ h => h) (fun _ _ _ h => h) ⟨fun c => absurd c e, fun _ c => ?_, fun _ c => absurd c no⟩
        have c' : gs_S g (st / 4) (st % 4) < 5 := c
        omega
      · rw [nI_1, nI_1]
        refine g4_goOn hN O (g4_S_next ok S (by omega) (Or.inr ⟨s5, rfl, yes.2.1, yes.2.2⟩)) (fun s' O' l m => hp s' a_callers a_back O' l (g4_cs_le l hc) hb (fun k p st f t c d => gq_mem_le l (hx k p st f t c d)) (fun _ _ _ _ h => h) (fun _ _ _ h => h) ⟨fun c => absurd c e, fun _ c => ?_, fun _ _ => m⟩)
        have c' : gs_S g (st / 4) (st % 4) < 5 := c
        omega
    · refine g4_call ok C.2.1 O s5 hm (by omega) rfl hc hb hx (fun s' ca O' l hc' hx' mc nc => hp s' ca a_back O' l hc' hb hx' mc (fun _ _ _ h => h) ⟨fun c => absurd c e, fun _ _ => nc, fun _ c => ?_⟩)
      have c' : 5 ≤ gs_S g (st / 4) (st % 4) := c.1
      omega
theorem g4_main (C : gx_C g f_present f_n a_kindOf a_lengthOf a_symbolOf a_word) {post : SX → Prop}
    (hp : ∀ (fi : Nat) (s : gq_s) (ca ba a : Nat → Int32), gx_T g a → post (f_present, f_n, f_keptLength, f_pairs, (nI fi), s.1, a_kindOf, a_lengthOf, a_symbolOf, a_word, a_kept, a, a_other, a_byLength, a_above, a_firstHalf, a_secondHalf, a_wholeOf, a_begun, s.2.1, s.2.2.1, s.2.2.2.1, s.2.2.2.2.1, s.2.2.2.2.2.1, ca, ba, a_least)) :
    ∀ d fi s ca ba, g4_J g fi s ca ba → 7992 - fi < d → ∀ n, d < n → wX_solveByCalls_110 post n f_present f_n f_keptLength f_pairs (nI fi) s.1 a_kindOf a_lengthOf a_symbolOf a_word a_kept a_made a_other a_byLength a_above a_firstHalf a_secondHalf a_wholeOf a_begun s.2.1 s.2.2.1 s.2.2.2.1 s.2.2.2.2.1 s.2.2.2.2.2.1 ca ba a_least := by
  have ok := C.1
  intro d
  induction d with
  | zero => intro fi s ca ba _ h; omega
  | succ d ih =>
    intro fi s ca ba J hd n hn
    obtain ⟨m, rfl⟩ : ∃ m, n = m + 1 := ⟨n - 1, by omega⟩
    have O := J.1
    have few := gq_few O.1
    have hfi := O.1.1
    refine pk_le (gq_tot s - fi) 0 (fun h => ?_) (fun h => ?_) O.1.2.1
    · refine gl_fill (fun n x a => wX_solveByCalls_183 post f_present f_n f_keptLength f_pairs (nI fi) s.1 n x a_kindOf a_lengthOf a_symbolOf a_word a_kept a a_other a_byLength a_above a_firstHalf a_secondHalf a_wholeOf a_begun s.2.1 s.2.2.1 s.2.2.2.1 s.2.2.2.2.1 s.2.2.2.2.2.1 ca ba a_least) 55 ba ?_ ?_ a_made
      · intro n a ha
        exact br_t (nI_le (a := 55) (by omega) (by omega)) (hp fi s ca ba a (g4_fin ok J (by omega) ha))
      · intro n i a hi hh
        refine br_f (nI_ge (b := 55) (by omega) (by omega)) (And.intro (vp_in_nI hi (by decide)) (And.intro (vp_in_nI hi (by decide)) ?_))
        rw [nI_clamp (by omega)]
        exact nm_e (nm_r (nI_1 i) hh)
    · have it := O.1.2.2.1 fi (by omega)
      have e1 : (nI fi + 1) &&& 8191 = nI (fi + 1) := by
        rw [nI_1, pk_andN (by omega) 13 (by decide), Nat.mod_eq_of_lt (by omega)]
      have e2 : s.1 - 1 = nI (gq_tot s - (fi + 1)) := by
        rw [O.1.2.1, show gq_tot s - fi = (gq_tot s - (fi + 1)) + 1 by omega, nI_pred]
      have hin : vp_in (nI fi) 8192 := vp_in_nI (by omega) (by decide)
      refine And.intro hin (nm_r (e' := nI (gq_h s fi).1) (by rw [nI_clamp (by omega)]; exact it.2.1) (And.intro hin (nm_r (e' := nI (gq_h s fi).2.1) (by rw [nI_clamp (by omega)]; exact it.2.2.1) (And.intro hin (nm_r (e' := nI (gq_h s fi).2.2) (by rw [nI_clamp (by omega)]; exact it.2.2.2) (nm_r e1 (nm_r e2 ?_)))))))
      have O1 : g4_O g (fi + 1) (nI (gq_tot s - (fi + 1)), s.2) := ⟨⟨show fi + 1 ≤ gq_tot s by omega, rfl, O.1.2.2⟩, O.2⟩
      refine g4_carryOn (s := (nI (gq_tot s - (fi + 1)), s.2)) (a_callers := ca) (a_back := ba) (st := (gq_h s fi).1) (f := (gq_h s fi).2.1) (t := (gq_h s fi).2.2) C O1 ⟨fi, show fi < gq_tot s by omega, rfl⟩ J.2.1 J.2.2.1 J.2.2.2.1 (fun s' ca' ba' O' l hc hb hx mc mb D => ih (fi + 1) s' ca' ba' ⟨O', hc, hb, hx, fun t ht => ?_, fun r i hr hh hi => gq_mem_le l (J.2.2.2.2.2 r i hr hh hi)⟩ (by omega) m (by omega))
      have e3 : gq_h s' t = gq_h s t := l.2 t (show t < gq_tot s by omega)
      rw [e3]
      by_cases e : t = fi
      · rw [e]; exact D
      · exact g4_D_le (s := s) l mc mb (J.2.2.2.2.1 t (by omega))
theorem g4_startKind (C : gx_C g f_present f_n a_kindOf a_lengthOf a_symbolOf a_word) {fi : Nat} {s : gq_s} (O : g4_O g fi s) {post : SX → Prop} {k i : Nat} (hk : k < 5) (hi : i ≤ gs_N g)
    (hp : ∀ s', g4_O g fi s' → gq_le s s' → (∀ r, r < 16 → gs_H g r = true → gs_K g r = k → gq_mem s' (4 * r, i, i)) → post (f_present, f_n, f_keptLength, f_pairs, (nI fi), s'.1, a_kindOf, a_lengthOf, a_symbolOf, a_word, a_kept, a_made, a_other, a_byLength, a_above, a_firstHalf, a_secondHalf, a_wholeOf, a_begun, s'.2.1, s'.2.2.1, s'.2.2.2.1, s'.2.2.2.2.1, s'.2.2.2.2.2.1, a_callers, a_back, a_least)) :
    wpX_startKind post (f_present, f_n, f_keptLength, f_pairs, (nI fi), s.1, a_kindOf, a_lengthOf, a_symbolOf, a_word, a_kept, a_made, a_other, a_byLength, a_above, a_firstHalf, a_secondHalf, a_wholeOf, a_begun, s.2.1, s.2.2.1, s.2.2.2.1, s.2.2.2.2.1, s.2.2.2.2.2.1, a_callers, a_back, a_least) (nI k) (nI i) := by
  have ok := C.1
  have hN := gs_N10 ok
  refine gl_ex (fun n r (s : gq_s) => wX_startKind_2 post (nI k) (nI i) n (nI r) f_present f_n f_keptLength f_pairs (nI fi) s.1 a_kindOf a_lengthOf a_symbolOf a_word a_kept a_made a_other a_byLength a_above a_firstHalf a_secondHalf a_wholeOf a_begun s.2.1 s.2.2.1 s.2.2.2.1 s.2.2.2.2.1 s.2.2.2.2.2.1 a_callers a_back a_least)
    (fun r s' => g4_O g fi s' ∧ gq_le s s' ∧ ∀ r', r' < r → gs_H g r' = true → gs_K g r' = k → gq_mem s' (4 * r', i, i)) 16 0 s (by omega) ⟨O, gq_le_rf s, fun r' h => absurd h (by omega)⟩ ?_ ?_
  · rintro n s' ⟨O', l, m⟩
    exact br_t (nI_le (a := 16) (by omega) (by omega)) (hp s' O' l m)
  · rintro n r s' hr ⟨O', l, m⟩ go
    have hK := gs_K5 ok hr
    refine br_f (nI_ge (b := 16) (by omega) (by omega)) (gx_has C hr (fun c => br_t rfl (nm_r (nI_1 r) (go s' ⟨O', l, fun r' hr' hh hk' => ?_⟩))) (fun c => br_f gb_10 (And.intro (vp_in_nI hr (by decide)) ?_)))
    · by_cases e : r' = r
      · rw [e, c] at hh; exact absurd hh (by decide)
      · exact m r' (by omega) hh hk'
    · rw [nI_clamp (by omega), C.2.2.2.1 _ hr]
      refine pk_eq (gs_K g r) k (fun e => ?_) (fun e => nm_r (nI_1 r) (go s' ⟨O', l, fun r' hr' hh hk' => ?_⟩))
      · rw [ix_m4]
        have e1 : 4 * r / 4 = r := by omega
        have e2 : 4 * r % 4 = 0 := by omega
        refine g4_goOn hN O' ⟨show 4 * r < 64 by omega, ?_, ?_, Nat.le_refl i, hi, ?_⟩ (fun s'' O'' l' m' => nm_r (nI_1 r) (go s'' ⟨O'', gq_le_tr l l', fun r' hr' hh hk' => ?_⟩))
        · show gs_H g (4 * r / 4) = true
          rw [e1]; exact c
        · show 4 * r % 4 ≤ gs_L g (4 * r / 4)
          omega
        · show gs_pre g (gs_Der g) (4 * r / 4) i (4 * r % 4) i
          rw [e2]; exact rfl
        · by_cases e3 : r' = r
          · rw [e3]; exact m'
          · exact gq_mem_le l' (m r' (by omega) hh hk')
      · by_cases e3 : r' = r
        · rw [e3] at hk'; exact absurd hk' e
        · exact m r' (by omega) hh hk'
theorem g4_start (C : gx_C g f_present f_n a_kindOf a_lengthOf a_symbolOf a_word) {s : gq_s} (O : g4_O g 0 s) {post : SX → Prop} (hca : ∀ c, c < 3520 → a_callers c = 0) (hba : ∀ c, c < 55 → a_back c = 0)
    (hp : ∀ (fi : Nat) (s : gq_s) (ca ba a : Nat → Int32), gx_T g a → post (f_present, f_n, f_keptLength, f_pairs, (nI fi), s.1, a_kindOf, a_lengthOf, a_symbolOf, a_word, a_kept, a, a_other, a_byLength, a_above, a_firstHalf, a_secondHalf, a_wholeOf, a_begun, s.2.1, s.2.2.1, s.2.2.2.1, s.2.2.2.2.1, s.2.2.2.2.2.1, ca, ba, a_least)) :
    ∃ n, wX_solveByCalls_77 post n 0 f_present f_n f_keptLength f_pairs 0 s.1 a_kindOf a_lengthOf a_symbolOf a_word a_kept a_made a_other a_byLength a_above a_firstHalf a_secondHalf a_wholeOf a_begun s.2.1 s.2.2.1 s.2.2.2.1 s.2.2.2.2.1 s.2.2.2.2.2.1 a_callers a_back a_least := by
  have ok := C.1
  have hN := gs_N10 ok
  have eN := C.2.1
  subst eN
  refine gl_ex (fun n k (s : gq_s) => wX_solveByCalls_77 post n (nI k) f_present (nI (gs_N g)) f_keptLength f_pairs (nI 0) s.1 a_kindOf a_lengthOf a_symbolOf a_word a_kept a_made a_other a_byLength a_above a_firstHalf a_secondHalf a_wholeOf a_begun s.2.1 s.2.2.1 s.2.2.2.1 s.2.2.2.2.1 s.2.2.2.2.2.1 a_callers a_back a_least)
    (fun k s' => g4_O g 0 s' ∧ ∀ r i, r < 16 → gs_H g r = true → gs_K g r < k → i ≤ gs_N g → gq_mem s' (4 * r, i, i)) 5 0 s (by omega) ⟨O, fun r i _ _ h => absurd h (by omega)⟩ ?_ ?_
  · rintro n s' ⟨O', m⟩
    refine br_t (nI_le (a := 5) (by omega) (by omega)) ⟨8000, g4_main (f_n := nI (gs_N g)) C hp 7993 0 s' a_callers a_back ⟨O', ?_, ?_, ?_, fun t ht => absurd ht (by omega), fun r i hr hh hi => m r i hr hh (gs_K5 ok hr) hi⟩ (by omega) _ (by omega)⟩
    · rintro k p st f ⟨h1, h2, h3, h4, h5⟩
      rw [hca _ (by omega), b_0] at h5
      exact absurd h5 (by decide)
    · rintro k f t ⟨h1, h2, h3, h4⟩
      rw [hba _ (by omega), b_0] at h4
      exact absurd h4 (by decide)
    · rintro k p st f t ⟨h1, h2, h3, h4, h5⟩
      rw [hca _ (by omega), b_0] at h5
      exact absurd h5 (by decide)
  · rintro n k s' hk ⟨O', m⟩ go
    refine br_f (nI_ge (b := 5) (by omega) (by omega)) ?_
    refine gl_ex (fun n' i (s : gq_s) => wX_solveByCalls_84 post (wX_solveByCalls_77 post n) (nI k) n' (nI i) f_present (nI (gs_N g)) f_keptLength f_pairs (nI 0) s.1 a_kindOf a_lengthOf a_symbolOf a_word a_kept a_made a_other a_byLength a_above a_firstHalf a_secondHalf a_wholeOf a_begun s.2.1 s.2.2.1 s.2.2.2.1 s.2.2.2.2.1 s.2.2.2.2.2.1 a_callers a_back a_least)
      (fun i s'' => g4_O g 0 s'' ∧ gq_le s' s'' ∧ ∀ r i', r < 16 → gs_H g r = true → gs_K g r = k → i' < i → gq_mem s'' (4 * r, i', i')) (gs_N g + 1) 0 s' (by omega) ⟨O', gq_le_rf s', fun r i _ _ _ h => absurd h (by omega)⟩ ?_ ?_
    · rintro n' s'' ⟨O'', l, m'⟩
      refine br_t (nI_lt (by omega) (by omega)) (nm_r (nI_1 k) (go s'' ⟨O'', fun r i hr hh hk' hi => ?_⟩))
      by_cases e : gs_K g r = k
      · exact m' r i hr hh e (by omega)
      · exact gq_mem_le l (m r i hr hh (by omega) hi)
    · rintro n' i s'' hi ⟨O'', l, m'⟩ go'
      refine br_f (nI_nlt (by omega) (by omega)) (g4_startKind (f_n := nI (gs_N g)) C O'' hk (by omega) (fun s3 O3 l3 m3 => nm_r (nI_1 i) (go' s3 ⟨O3, gq_le_tr l l3, fun r i' hr hh hk' hi' => ?_⟩)))
      by_cases e : i' = i
      · rw [e]; exact m3 r hr hh hk'
      · exact gq_mem_le l3 (m' r i' hr hh hk' (by omega))
theorem gx_eng4 (C : gx_C g f_present f_n a_kindOf a_lengthOf a_symbolOf a_word) {post : SX → Prop}
    (hp : ∀ (fi : Nat) (s : gq_s) (ca ba a : Nat → Int32), gx_T g a → post (f_present, f_n, f_keptLength, f_pairs, (nI fi), s.1, a_kindOf, a_lengthOf, a_symbolOf, a_word, a_kept, a, a_other, a_byLength, a_above, a_firstHalf, a_secondHalf, a_wholeOf, a_begun, s.2.1, s.2.2.1, s.2.2.2.1, s.2.2.2.2.1, s.2.2.2.2.2.1, ca, ba, a_least)) : wpX_solveByCalls post (f_present, f_n, f_keptLength, f_pairs, f_first, f_waiting, a_kindOf, a_lengthOf, a_symbolOf, a_word, a_kept, a_made, a_other, a_byLength, a_above, a_firstHalf, a_secondHalf, a_wholeOf, a_begun, a_fact, a_open, a_waitWhat, a_waitFrom, a_waitTo, a_callers, a_back, a_least) := by
  refine gl_fill (fun n x a => wX_solveByCalls_12 post f_present f_n f_keptLength f_pairs 0 0 n x a_kindOf a_lengthOf a_symbolOf a_word a_kept a_made a_other a_byLength a_above a_firstHalf a_secondHalf a_wholeOf a_begun a_fact a a_waitWhat a_waitFrom a_waitTo a_callers a_back a_least) 704 (fun _ => 0) ?_ ?_ a_open
  · intro n op hop
    refine br_t (nI_le (a := 704) (by omega) (by omega)) ?_
    refine gl_fill (fun n x a => wX_solveByCalls_34 post f_present f_n f_keptLength f_pairs 0 0 n x a_kindOf a_lengthOf a_symbolOf a_word a_kept a_made a_other a_byLength a_above a_firstHalf a_secondHalf a_wholeOf a_begun a_fact op a_waitWhat a_waitFrom a_waitTo a a_back a_least) 3520 (fun _ => 0) ?_ ?_ a_callers
    · intro n ca hca
      refine br_t (nI_le (a := 3520) (by omega) (by omega)) ?_
      refine gl_fill (fun n x a => wX_solveByCalls_56 post f_present f_n f_keptLength f_pairs 0 0 n x a_kindOf a_lengthOf a_symbolOf a_word a_kept a_made a_other a_byLength a_above a_firstHalf a_secondHalf a_wholeOf a_begun a_fact op a_waitWhat a_waitFrom a_waitTo ca a a_least) 55 (fun _ => 0) ?_ ?_ a_back
      · intro n ba hba
        refine br_t (nI_le (a := 55) (by omega) (by omega)) ?_
        refine g4_start (s := (0, a_fact, op, a_waitWhat, a_waitFrom, a_waitTo, 0, fun _ => (0, 0, 0))) (a_callers := ca) (a_back := ba) C ⟨⟨Nat.le_refl 0, rfl, fun t ht => absurd ht (Nat.not_lt_zero t), fun t u _ hu => absurd hu (Nat.not_lt_zero u)⟩, ?_, ?_⟩ hca hba hp
        · intro st f t h1 h2 h3
          show bt (op (f * 64 + st)) t = true ↔ _
          rw [hop _ (by omega), b_0]
          constructor
          · intro h; exact absurd h (by decide)
          · rintro ⟨u, hu, _⟩; exact absurd hu (Nat.not_lt_zero u)
        · rintro p ⟨u, hu, _⟩; exact absurd hu (Nat.not_lt_zero u)
      · intro n i a hi hh
        refine br_f (nI_ge (b := 55) (by omega) (by omega)) (And.intro (vp_in_nI hi (by decide)) ?_)
        rw [nI_clamp (by omega)]
        exact nm_e (nm_r (nI_1 i) hh)
    · intro n i a hi hh
      refine br_f (nI_ge (b := 3520) (by omega) (by omega)) (And.intro (vp_in_nI hi (by decide)) ?_)
      rw [nI_clamp (by omega)]
      exact nm_e (nm_r (nI_1 i) hh)
  · intro n i a hi hh
    refine br_f (nI_ge (b := 704) (by omega) (by omega)) (And.intro (vp_in_nI hi (by decide)) ?_)
    rw [nI_clamp (by omega)]
    exact nm_e (nm_r (nI_1 i) hh)
end
end
section
/-! engine 2: facts wait and meet unfinished states -/
def g2_S (g : gs_G) (p : Nat × Nat × Nat) : Prop :=
  (p.1 < 8 → gs_cov g (gs_Der g) p.1 p.2.1 p.2.2) ∧ (8 ≤ p.1 → g4_S g (p.1 - 8, p.2.1, p.2.2) ∧ (p.1 - 8) % 4 < gs_L g ((p.1 - 8) / 4))
def g2_O (g : gs_G) (fi : Nat) (s : gq_s) : Prop :=
  gq_Q fi s ∧ (∀ sy f t, sy < 8 → f ≤ 10 → t < 32 → (bt (s.2.1 (sy * 11 + f)) t = true ↔ gq_mem s (sy, f, t))) ∧
  (∀ st f t, st < 64 → f ≤ 10 → t < 32 → (bt (s.2.2.1 (f * 64 + st)) t = true ↔ gq_mem s (8 + st, f, t))) ∧ (∀ p, gq_mem s p → g2_S g p)
def g2_R (g : gs_G) (s : gq_s) (st f t : Nat) : Prop :=
  (st % 4 = gs_L g (st / 4) → gq_mem s (gs_K g (st / 4), f, t)) ∧ (st % 4 ≠ gs_L g (st / 4) → gq_mem s (8 + st, f, t))
theorem g2_R_le {g : gs_G} {s s' : gq_s} {st f t : Nat} (l : gq_le s s') (h : g2_R g s st f t) : g2_R g s' st f t :=
  ⟨fun e => gq_mem_le l (h.1 e), fun e => gq_mem_le l (h.2 e)⟩
theorem g2_pair {a b c a' b' c' : Nat} (e : (a', b', c') = (a, b, c)) : a' = a ∧ b' = b ∧ c' = c := by
  injection e with e1 e2
  injection e2 with e2 e3
  exact ⟨e1, e2, e3⟩
section
variable {g : gs_G} {f_present f_n f_keptLength f_pairs f_first f_waiting : Int32} {a_kindOf a_lengthOf a_symbolOf a_word a_kept a_made a_other a_byLength a_above a_firstHalf a_secondHalf a_wholeOf a_begun a_fact a_open a_waitWhat a_waitFrom a_waitTo a_callers a_back a_least : Nat → Int32}
theorem g2_addFact (ok : gs_ok g) {fi : Nat} {s : gq_s} (O : g2_O g fi s) {sy f t : Nat} (hs : sy < 8) (hc : gs_cov g (gs_Der g) sy f t) {post : SX → Prop}
    (h : ∀ s', g2_O g fi s' → gq_le s s' → gq_mem s' (sy, f, t) → post (f_present, f_n, f_keptLength, f_pairs, (nI fi), s'.1, a_kindOf, a_lengthOf, a_symbolOf, a_word, a_kept, a_made, a_other, a_byLength, a_above, a_firstHalf, a_secondHalf, a_wholeOf, a_begun, s'.2.1, s'.2.2.1, s'.2.2.2.1, s'.2.2.2.2.1, s'.2.2.2.2.2.1, a_callers, a_back, a_least)) :
    wpX_addFact post (f_present, f_n, f_keptLength, f_pairs, (nI fi), s.1, a_kindOf, a_lengthOf, a_symbolOf, a_word, a_kept, a_made, a_other, a_byLength, a_above, a_firstHalf, a_secondHalf, a_wholeOf, a_begun, s.2.1, s.2.2.1, s.2.2.2.1, s.2.2.2.2.1, s.2.2.2.2.2.1, a_callers, a_back, a_least) (nI sy) (nI f) (nI t) := by
  have hN := gs_N10 ok
  have rg := gs_cov_rng (fun _ _ _ c => gs_Der_rng c) hc
  refine nm_r (ix_11 sy f) (And.intro (vp_in_nI (by omega) (by decide)) ?_)
  rw [nI_clamp (by omega)]
  refine gb_br t (fun c => ?_) (fun c => ?_)
  · refine And.intro (vp_in_nI (by omega) (by decide)) (And.intro (vp_in_nI (by omega) (by decide)) (nm_e ?_))
    have hn : ¬ gq_mem s (sy, f, t) := fun m => by
      have := (O.2.1 sy f t hs (by omega) (by omega)).mpr m
      rw [c] at this
      exact absurd this (by decide)
    refine gq_wait (s := (s.1, upd s.2.1 (sy * 11 + f) (s.2.1 (sy * 11 + f) ||| ((1 : Int32) <<< (nI t &&& 31))), s.2.2)) O.1 (show gq_it (sy, f, t) from ⟨show sy < 72 by omega, rg.1, show t ≤ 10 by omega⟩) hn (fun ww wf wt Q => ?_)
    refine h (gq_put fi s (sy, f, t) (upd s.2.1 (sy * 11 + f) (s.2.1 (sy * 11 + f) ||| ((1 : Int32) <<< (nI t &&& 31)))) s.2.2.1 ww wf wt) ⟨Q, ?_, ?_, ?_⟩ gq_put_le (gq_put_mem.mpr (Or.inr rfl))
    · intro sy' f' t' k1 k2 k3
      rw [gq_put_mem, ← O.2.1 sy' f' t' k1 k2 k3]
      refine (gx_bup _ _).trans (or_congr Iff.rfl ?_)
      rw [gb_one (by omega) k3, decide_eq_true_eq]
      constructor
      · rintro ⟨e1, e2⟩
        have e3 : sy' = sy := by omega
        have e4 : f' = f := by omega
        rw [e2, e3, e4]
      · intro e
        obtain ⟨e1, e2, e3⟩ := g2_pair e
        exact ⟨by rw [e1, e2], e3⟩
    · intro st f' t' k1 k2 k3
      rw [gq_put_mem, ← O.2.2.1 st f' t' k1 k2 k3]
      refine ⟨Or.inl, fun h => h.elim id (fun e => ?_)⟩
      have := (g2_pair e).1
      omega
    · intro p hp
      rcases gq_put_mem.mp hp with hp | hp
      · exact O.2.2.2 p hp
      · rw [hp]
        refine ⟨fun _ => hc, fun h8 => ?_⟩
        have h8' : 8 ≤ sy := h8
        omega
  · exact h s O (gq_le_rf s) ((O.2.1 sy f t hs (by omega) (by omega)).mp c)
theorem g2_addOpen (C : gx_C g f_present f_n a_kindOf a_lengthOf a_symbolOf a_word) {fi : Nat} {s : gq_s} (O : g2_O g fi s) {st f t : Nat} (S : g4_S g (st, f, t)) {post : SX → Prop}
    (h : ∀ s', g2_O g fi s' → gq_le s s' → g2_R g s' st f t → post (f_present, f_n, f_keptLength, f_pairs, (nI fi), s'.1, a_kindOf, a_lengthOf, a_symbolOf, a_word, a_kept, a_made, a_other, a_byLength, a_above, a_firstHalf, a_secondHalf, a_wholeOf, a_begun, s'.2.1, s'.2.2.1, s'.2.2.2.1, s'.2.2.2.2.1, s'.2.2.2.2.2.1, a_callers, a_back, a_least)) :
    wpX_addOpen post (f_present, f_n, f_keptLength, f_pairs, (nI fi), s.1, a_kindOf, a_lengthOf, a_symbolOf, a_word, a_kept, a_made, a_other, a_byLength, a_above, a_firstHalf, a_secondHalf, a_wholeOf, a_begun, s.2.1, s.2.2.1, s.2.2.2.1, s.2.2.2.2.1, s.2.2.2.2.2.1, a_callers, a_back, a_least) (nI st) (nI f) (nI t) := by
  have ok := C.1
  have hN := gs_N10 ok
  have h1 : st < 64 := S.1
  have h2 : f ≤ t := S.2.2.2.1
  have h3 : t ≤ gs_N g := S.2.2.2.2.1
  have h4 : gs_H g (st / 4) = true := S.2.1
  have h5 : st % 4 ≤ gs_L g (st / 4) := S.2.2.1
  have h6 : gs_pre g (gs_Der g) (st / 4) f (st % 4) t := S.2.2.2.2.2
  have hr : st / 4 < 16 := by omega
  have hL := gs_L3 ok hr
  refine And.intro ix_40 (nm_r (ix_d4 (by omega)) (And.intro ix_40 (And.intro (vp_in_nI hr (by decide)) ?_)))
  rw [nI_clamp (by omega), C.2.2.2.2.1 _ hr]
  refine pk_eq (st % 4) (gs_L g (st / 4)) (fun e => And.intro (vp_in_nI hr (by decide)) ?_) (fun e => ?_) (ix_r4 (by omega))
  · rw [C.2.2.2.1 _ hr]
    have hK := gs_K5 ok hr
    have hd : gs_Der g (gs_K g (st / 4)) f t := gs_Der_cl g _ hr h4 f t (by omega) (by rw [← e]; exact h6)
    exact g2_addFact ok O (by omega) (Or.inl ⟨hK, hd⟩) (fun s' O' l m => h s' O' l ⟨fun _ => m, fun c => absurd e c⟩)
  · refine nm_r (ix_64 f st) (And.intro (vp_in_nI (by omega) (by decide)) ?_)
    rw [nI_clamp (by omega)]
    refine gb_br t (fun c => ?_) (fun c => ?_)
    · refine And.intro (vp_in_nI (by omega) (by decide)) (And.intro (vp_in_nI (by omega) (by decide)) (nm_e ?_))
      have hn : ¬ gq_mem s (8 + st, f, t) := fun m => by
        have := (O.2.2.1 st f t h1 (by omega) (by omega)).mpr m
        rw [c] at this
        exact absurd this (by decide)
      have e8 : (8 : Int32) + nI st = nI (8 + st) := nI_add 8 st
      rw [e8]
      refine gq_wait (s := (s.1, s.2.1, upd s.2.2.1 (f * 64 + st) (s.2.2.1 (f * 64 + st) ||| ((1 : Int32) <<< (nI t &&& 31))), s.2.2.2)) O.1 (show gq_it (8 + st, f, t) from ⟨show 8 + st < 72 by omega, h2, show t ≤ 10 by omega⟩) hn (fun ww wf wt Q => ?_)
      refine h (gq_put fi s (8 + st, f, t) s.2.1 (upd s.2.2.1 (f * 64 + st) (s.2.2.1 (f * 64 + st) ||| ((1 : Int32) <<< (nI t &&& 31)))) ww wf wt) ⟨Q, ?_, ?_, ?_⟩ gq_put_le ⟨fun c => absurd c e, fun _ => gq_put_mem.mpr (Or.inr rfl)⟩
      · intro sy f' t' k1 k2 k3
        rw [gq_put_mem, ← O.2.1 sy f' t' k1 k2 k3]
        refine ⟨Or.inl, fun h => h.elim id (fun e => ?_)⟩
        have := (g2_pair e).1
        omega
      · intro st' f' t' k1 k2 k3
        rw [gq_put_mem, ← O.2.2.1 st' f' t' k1 k2 k3]
        refine (gx_bup _ _).trans (or_congr Iff.rfl ?_)
        rw [gb_one (by omega) k3, decide_eq_true_eq]
        constructor
        · rintro ⟨e1, e2⟩
          have e3 : st' = st := by omega
          have e4 : f' = f := by omega
          rw [e2, e3, e4]
        · intro e
          obtain ⟨e1, e2, e3⟩ := g2_pair e
          exact ⟨by omega, e3⟩
      · intro p hp
        rcases gq_put_mem.mp hp with hp | hp
        · exact O.2.2.2 p hp
        · rw [hp]
          refine ⟨fun h8 => ?_, fun _ => ?_⟩
          · have h8' : 8 + st < 8 := h8
            omega
          · show g4_S g (8 + st - 8, f, t) ∧ (8 + st - 8) % 4 < gs_L g ((8 + st - 8) / 4)
            rw [show 8 + st - 8 = st by omega]
            exact ⟨S, by omega⟩
    · exact h s O (gq_le_rf s) ⟨fun c => absurd c e, fun _ => (O.2.2.1 st f t h1 (by omega) (by omega)).mp c⟩
theorem g2_meetStates (C : gx_C g f_present f_n a_kindOf a_lengthOf a_symbolOf a_word) {fi : Nat} {s : gq_s} (O : g2_O g fi s) {sy m e : Nat} (hs : sy < 8) (hc : gs_cov g (gs_Der g) sy m e) {post : SX → Prop}
    (h : ∀ s', g2_O g fi s' → gq_le s s' → (∀ st f, gq_mem s (8 + st, f, m) → gs_aw g st sy → g2_R g s' (st + 1) f e) → post (f_present, f_n, f_keptLength, f_pairs, (nI fi), s'.1, a_kindOf, a_lengthOf, a_symbolOf, a_word, a_kept, a_made, a_other, a_byLength, a_above, a_firstHalf, a_secondHalf, a_wholeOf, a_begun, s'.2.1, s'.2.2.1, s'.2.2.2.1, s'.2.2.2.2.1, s'.2.2.2.2.2.1, a_callers, a_back, a_least)) :
    wpX_meetStates post (f_present, f_n, f_keptLength, f_pairs, (nI fi), s.1, a_kindOf, a_lengthOf, a_symbolOf, a_word, a_kept, a_made, a_other, a_byLength, a_above, a_firstHalf, a_secondHalf, a_wholeOf, a_begun, s.2.1, s.2.2.1, s.2.2.2.1, s.2.2.2.2.1, s.2.2.2.2.2.1, a_callers, a_back, a_least) (nI sy) (nI m) (nI e) := by
  have ok := C.1
  have hN := gs_N10 ok
  have rg := gs_cov_rng (fun _ _ _ c => gs_Der_rng c) hc
  have hst : ∀ st f, gq_mem s (8 + st, f, m) → st < 64 ∧ f ≤ m := by
    intro st f hm
    have h1 : g4_S g (8 + st - 8, f, m) := ((O.2.2.2 _ hm).2 (show 8 ≤ 8 + st by omega)).1
    rw [show 8 + st - 8 = st by omega] at h1
    exact ⟨h1.1, h1.2.2.2.1⟩
  refine gl_ex (fun n f (s : gq_s) => wX_meetStates_3 post (nI sy) (nI m) (nI e) n (nI f) f_present f_n f_keptLength f_pairs (nI fi) s.1 a_kindOf a_lengthOf a_symbolOf a_word a_kept a_made a_other a_byLength a_above a_firstHalf a_secondHalf a_wholeOf a_begun s.2.1 s.2.2.1 s.2.2.2.1 s.2.2.2.2.1 s.2.2.2.2.2.1 a_callers a_back a_least)
    (fun f s' => g2_O g fi s' ∧ gq_le s s' ∧ ∀ st f', f' < f → gq_mem s (8 + st, f', m) → gs_aw g st sy → g2_R g s' (st + 1) f' e) (m + 1) 0 s (by omega) ⟨O, gq_le_rf s, fun st f' h => absurd h (by omega)⟩ ?_ ?_
  · rintro n s' ⟨O', l, mm⟩
    exact br_t (nI_lt (by omega) (by omega)) (h s' O' l (fun st f hm ha => mm st f (by have := (hst st f hm).2; omega) hm ha))
  · rintro n f s' hf ⟨O', l, mm⟩ go
    refine br_f (nI_nlt (by omega) (by omega)) ?_
    refine gl_ex (fun n' st (s : gq_s) => wX_meetStates_12 post (wX_meetStates_3 post (nI sy) (nI m) (nI e) n) (nI sy) (nI m) (nI e) (nI f) n' (nI st) f_present f_n f_keptLength f_pairs (nI fi) s.1 a_kindOf a_lengthOf a_symbolOf a_word a_kept a_made a_other a_byLength a_above a_firstHalf a_secondHalf a_wholeOf a_begun s.2.1 s.2.2.1 s.2.2.2.1 s.2.2.2.2.1 s.2.2.2.2.2.1 a_callers a_back a_least)
      (fun st s'' => g2_O g fi s'' ∧ gq_le s' s'' ∧ ∀ st', st' < st → gq_mem s' (8 + st', f, m) → gs_aw g st' sy → g2_R g s'' (st' + 1) f e) 64 0 s' (by omega) ⟨O', gq_le_rf s', fun st' h => absurd h (by omega)⟩ ?_ ?_
    · rintro n' s'' ⟨O'', l', m'⟩
      refine br_t (nI_le (a := 64) (by omega) (by omega)) (nm_r (nI_1 f) (go s'' ⟨O'', gq_le_tr l l', fun st f' hf' hm ha => ?_⟩))
      by_cases e1 : f' = f
      · rw [e1] at hm ⊢
        exact m' st (hst st f hm).1 (gq_mem_le l hm) ha
      · exact g2_R_le l' (mm st f' (by omega) hm ha)
    · rintro n' st s'' hst' ⟨O'', l', m'⟩ go'
      refine br_f (nI_ge (b := 64) (by omega) (by omega)) (And.intro (by rw [ix_64]; exact vp_in_nI (by omega) (by decide)) ?_)
      rw [ix_64, nI_clamp (by omega)]
      have keep : (gq_mem s' (8 + st, f, m) → gs_aw g st sy → g2_R g s'' (st + 1) f e) → wX_meetStates_12 post (wX_meetStates_3 post (nI sy) (nI m) (nI e) n) (nI sy) (nI m) (nI e) (nI f) n' (nI (st + 1)) f_present f_n f_keptLength f_pairs (nI fi) s''.1 a_kindOf a_lengthOf a_symbolOf a_word a_kept a_made a_other a_byLength a_above a_firstHalf a_secondHalf a_wholeOf a_begun s''.2.1 s''.2.2.1 s''.2.2.2.1 s''.2.2.2.2.1 s''.2.2.2.2.2.1 a_callers a_back a_least := by
        intro hk
        refine go' s'' ⟨O'', l', fun st' h1 hm ha => ?_⟩
        by_cases e1 : st' = st
        · rw [e1] at hm ha ⊢; exact hk hm ha
        · exact m' st' (by omega) hm ha
      refine gb_br m (fun c => nm_r (nI_1 st) (keep (fun hm => ?_))) (fun c => ?_)
      · have := (O''.2.2.1 st f m hst' (by omega) (by omega)).mpr (gq_mem_le l' hm)
        rw [c] at this
        exact absurd this (by decide)
      · refine gx_aw C hst' hs (fun z hz => gs_tf_br hz (fun no => nm_r (nI_1 st) (keep (fun _ ha => absurd ha no))) (fun yes => ?_))
        have hm := (O''.2.2.1 st f m hst' (by omega) (by omega)).mp c
        have h1 : g4_S g (8 + st - 8, f, m) := ((O''.2.2.2 _ hm).2 (show 8 ≤ 8 + st by omega)).1
        rw [show 8 + st - 8 = st by omega] at h1
        rw [nI_1 st]
        refine g2_addOpen C O'' (g4_S_next ok h1 yes.2.1 (by rw [yes.2.2]; exact hc)) (fun s3 O3 l3 m3 => nm_e (go' s3 ⟨O3, gq_le_tr l' l3, fun st' h2 hm' ha => ?_⟩))
        by_cases e1 : st' = st
        · rw [e1]; exact m3
        · exact g2_R_le l3 (m' st' (by omega) hm' ha)
theorem g2_meetFacts (C : gx_C g f_present f_n a_kindOf a_lengthOf a_symbolOf a_word) {fi : Nat} {s : gq_s} (O : g2_O g fi s) {st f m : Nat} (S : g4_S g (st, f, m)) (hd : st % 4 < gs_L g (st / 4)) {post : SX → Prop}
    (h : ∀ s', g2_O g fi s' → gq_le s s' → (∀ e, gq_mem s (gs_S g (st / 4) (st % 4), m, e) → g2_R g s' (st + 1) f e) → post (f_present, f_n, f_keptLength, f_pairs, (nI fi), s'.1, a_kindOf, a_lengthOf, a_symbolOf, a_word, a_kept, a_made, a_other, a_byLength, a_above, a_firstHalf, a_secondHalf, a_wholeOf, a_begun, s'.2.1, s'.2.2.1, s'.2.2.2.1, s'.2.2.2.2.1, s'.2.2.2.2.2.1, a_callers, a_back, a_least)) :
    wpX_meetFacts post (f_present, f_n, f_keptLength, f_pairs, (nI fi), s.1, a_kindOf, a_lengthOf, a_symbolOf, a_word, a_kept, a_made, a_other, a_byLength, a_above, a_firstHalf, a_secondHalf, a_wholeOf, a_begun, s.2.1, s.2.2.1, s.2.2.2.1, s.2.2.2.2.1, s.2.2.2.2.2.1, a_callers, a_back, a_least) (nI st) (nI f) (nI m) := by
  have ok := C.1
  have hN := gs_N10 ok
  have h1 : st < 64 := S.1
  have h2 : f ≤ m := S.2.2.2.1
  have h3 : m ≤ gs_N g := S.2.2.2.2.1
  have hr : st / 4 < 16 := by omega
  have hL := gs_L3 ok hr
  have h8 := gs_S8 ok hr (show st % 4 < 3 by omega)
  have eN := C.2.1
  subst eN
  refine And.intro ix_40 (And.intro ix_40 ?_)
  rw [ix_d4 (by omega), show nI st - nI (st / 4) * 4 = nI (st % 4) by rw [← ix_d4 (by omega)]; exact ix_r4 (by omega)]
  refine gx_sym C hr (by omega) ?_
  have cv : ∀ e, gq_mem s (gs_S g (st / 4) (st % 4), m, e) → gs_cov g (gs_Der g) (gs_S g (st / 4) (st % 4)) m e := fun e hm => (O.2.2.2 _ hm).1 h8
  refine gl_ex (fun n e (s : gq_s) => wX_meetFacts_15 post (nI st) (nI f) (nI m) (nI (gs_S g (st / 4) (st % 4))) n (nI e) f_present (nI (gs_N g)) f_keptLength f_pairs (nI fi) s.1 a_kindOf a_lengthOf a_symbolOf a_word a_kept a_made a_other a_byLength a_above a_firstHalf a_secondHalf a_wholeOf a_begun s.2.1 s.2.2.1 s.2.2.2.1 s.2.2.2.2.1 s.2.2.2.2.2.1 a_callers a_back a_least)
    (fun e s' => g2_O g fi s' ∧ gq_le s s' ∧ ∀ e', e' < e → gq_mem s (gs_S g (st / 4) (st % 4), m, e') → g2_R g s' (st + 1) f e') (gs_N g + 1) m s (by omega) ⟨O, gq_le_rf s, fun e' he hm => absurd (gs_cov_rng (fun _ _ _ c => gs_Der_rng c) (cv e' hm)).1 (by omega)⟩ ?_ ?_
  · rintro n s' ⟨O', l, mm⟩
    exact br_t (nI_lt (by omega) (by omega)) (h s' O' l (fun e hm => mm e (by have := (gs_cov_rng (fun _ _ _ c => gs_Der_rng c) (cv e hm)).2; omega) hm))
  · rintro n e s' he ⟨O', l, mm⟩ go
    refine br_f (nI_nlt (by omega) (by omega)) (And.intro (by rw [ix_11]; exact vp_in_nI (by omega) (by decide)) ?_)
    rw [ix_11, nI_clamp (by omega)]
    refine gb_br e (fun c => nm_r (nI_1 e) (go s' ⟨O', l, fun e' he' hm => ?_⟩)) (fun c => ?_)
    · by_cases e1 : e' = e
      · rw [e1] at hm
        have := (O'.2.1 _ m e h8 (by omega) (by omega)).mpr (gq_mem_le l hm)
        rw [c] at this
        exact absurd this (by decide)
      · exact mm e' (by omega) hm
    · have hm := (O'.2.1 _ m e h8 (by omega) (by omega)).mp c
      have hcv : gs_cov g (gs_Der g) (gs_S g (st / 4) (st % 4)) m e := (O'.2.2.2 _ hm).1 h8
      rw [nI_1 st]
      refine g2_addOpen C O' (g4_S_next ok S hd hcv) (fun s3 O3 l3 m3 => nm_r (nI_1 e) (go s3 ⟨O3, gq_le_tr l l3, fun e' he' hm' => ?_⟩))
      by_cases e1 : e' = e
      · rw [e1]; exact m3
      · exact g2_R_le l3 (mm e' (by omega) hm')
end
end
section
/-! engine 2: the rest -/
def g2_P (g : gs_G) (fi : Nat) (s : gq_s) : Prop :=
  ∀ t u sy m e st f, t < fi → u < fi → gq_h s t = (sy, m, e) → sy < 8 → gq_h s u = (8 + st, f, m) → gs_aw g st sy → g2_R g s (st + 1) f e
def g2_J (g : gs_G) (fi : Nat) (s : gq_s) : Prop :=
  g2_O g fi s ∧ g2_P g fi s ∧ (∀ i, i < gs_N g → gq_mem s (5 + gs_W g i, i, i + 1)) ∧ (∀ r i, r < 16 → gs_H g r = true → i ≤ gs_N g → g2_R g s (4 * r) i i)
def g2_F (s : gq_s) (k i j : Nat) : Prop := k < 5 ∧ gq_mem s (k, i, j)
theorem g2_all {g : gs_G} (ok : gs_ok g) {fi : Nat} {s : gq_s} (J : g2_J g fi s) (hf : gq_tot s = fi) {r i : Nat} (hr : r < 16) (hh : gs_H g r = true) (hi : i ≤ gs_N g) :
    ∀ d m, d ≤ gs_L g r → gs_pre g (g2_F s) r i d m → g2_R g s (4 * r + d) i m := by
  have hL := gs_L3 ok hr
  intro d
  induction d with
  | zero => intro m _ h; have e : m = i := h; rw [e]; exact J.2.2.2 r i hr hh hi
  | succ d ih =>
    intro m hd h
    obtain ⟨m', h1, h2⟩ := h
    have e1 : (4 * r + d) / 4 = r := by omega
    have e2 : (4 * r + d) % 4 = d := by omega
    have h3 := (ih m' (by omega) h1).2 (by rw [e1, e2]; omega)
    obtain ⟨u, hu, eu⟩ := h3
    have h8 := gs_S8 ok hr (show d < 3 by omega)
    have hm : gq_mem s (gs_S g r d, m', m) := by
      rcases h2 with ⟨a, b⟩ | ⟨a, b, c, e⟩
      · exact b.2
      · have := J.2.2.1 m' c
        rw [b, ← e, Nat.add_comm (gs_W g m') 5]
        exact this
    obtain ⟨t, ht, et⟩ := hm
    refine J.2.1 t u (gs_S g r d) m' m (4 * r + d) i (by omega) (by omega) et h8 eu ⟨?_, ?_, ?_⟩
    · rw [e1]; exact hh
    · rw [e1, e2]; omega
    · rw [e1, e2]
theorem g2_fin {g : gs_G} (ok : gs_ok g) {fi : Nat} {s : gq_s} (J : g2_J g fi s) (hf : gq_tot s = fi) {a : Nat → Int32} (ha : ∀ c, c < 55 → a c = s.2.1 c) : gx_T g a := by
  have hN := gs_N10 ok
  have hc : gs_cl g (g2_F s) := by
    intro r hr hh i j hi hp
    have hL := gs_L3 ok hr
    have h1 := g2_all ok J hf hr hh hi (gs_L g r) j (Nat.le_refl _) hp
    have e1 : (4 * r + gs_L g r) / 4 = r := by omega
    have e2 : (4 * r + gs_L g r) % 4 = gs_L g r := by omega
    have h2 := h1.1 (by rw [e1, e2])
    rw [e1] at h2
    exact ⟨gs_K5 ok hr, h2⟩
  have hs : ∀ k i j, g2_F s k i j → gs_Der g k i j := by
    rintro k i j ⟨hk, hm⟩
    have h1 : gs_cov g (gs_Der g) k i j := (J.1.2.2.2 _ hm).1 (show k < 8 by omega)
    rcases h1 with h1 | h1
    · exact h1.2
    · omega
  intro k i j hk hi hj
  rw [ha _ (by omega), J.1.2.1 k i j (by omega) (by omega) hj]
  have h1 := gs_Der_iff hs hc k i j
  exact ⟨fun e => h1.mp ⟨hk, e⟩, fun e => (h1.mpr e).2⟩
section
variable {g : gs_G} {f_present f_n f_keptLength f_pairs f_first f_waiting : Int32} {a_kindOf a_lengthOf a_symbolOf a_word a_kept a_made a_other a_byLength a_above a_firstHalf a_secondHalf a_wholeOf a_begun a_fact a_open a_waitWhat a_waitFrom a_waitTo a_callers a_back a_least : Nat → Int32}
theorem g2_main (C : gx_C g f_present f_n a_kindOf a_lengthOf a_symbolOf a_word) {post : SX → Prop}
    (hp : ∀ (fi : Nat) (s : gq_s) (a : Nat → Int32), gx_T g a → post (f_present, f_n, f_keptLength, f_pairs, (nI fi), s.1, a_kindOf, a_lengthOf, a_symbolOf, a_word, a_kept, a, a_other, a_byLength, a_above, a_firstHalf, a_secondHalf, a_wholeOf, a_begun, s.2.1, s.2.2.1, s.2.2.2.1, s.2.2.2.2.1, s.2.2.2.2.2.1, a_callers, a_back, a_least)) :
    ∀ d fi s, g2_J g fi s → 7992 - fi < d → ∀ n, d < n → wX_solveByFacts_4 post n f_present f_n f_keptLength f_pairs (nI fi) s.1 a_kindOf a_lengthOf a_symbolOf a_word a_kept a_made a_other a_byLength a_above a_firstHalf a_secondHalf a_wholeOf a_begun s.2.1 s.2.2.1 s.2.2.2.1 s.2.2.2.2.1 s.2.2.2.2.2.1 a_callers a_back a_least := by
  have ok := C.1
  intro d
  induction d with
  | zero => intro fi s _ h; omega
  | succ d ih =>
    intro fi s J hd n hn
    obtain ⟨m, rfl⟩ : ∃ m, n = m + 1 := ⟨n - 1, by omega⟩
    have O := J.1
    have few := gq_few O.1
    have hfi := O.1.1
    refine pk_le (gq_tot s - fi) 0 (fun h => ?_) (fun h => ?_) O.1.2.1
    · refine gl_fill (fun n x a => wX_solveByFacts_96 post f_present f_n f_keptLength f_pairs (nI fi) s.1 n x a_kindOf a_lengthOf a_symbolOf a_word a_kept a a_other a_byLength a_above a_firstHalf a_secondHalf a_wholeOf a_begun s.2.1 s.2.2.1 s.2.2.2.1 s.2.2.2.2.1 s.2.2.2.2.2.1 a_callers a_back a_least) 55 s.2.1 ?_ ?_ a_made
      · intro n a ha
        exact br_t (nI_le (a := 55) (by omega) (by omega)) (hp fi s a (g2_fin ok J (by omega) ha))
      · intro n i a hi hh
        refine br_f (nI_ge (b := 55) (by omega) (by omega)) (And.intro (vp_in_nI (by omega) (by decide)) (And.intro (vp_in_nI hi (by decide)) ?_))
        rw [nI_clamp (by omega)]
        exact nm_e (nm_r (nI_1 i) hh)
    · have it := O.1.2.2.1 fi (by omega)
      have e1 : (nI fi + 1) &&& 8191 = nI (fi + 1) := by
        rw [nI_1, pk_andN (by omega) 13 (by decide), Nat.mod_eq_of_lt (by omega)]
      have e2 : s.1 - 1 = nI (gq_tot s - (fi + 1)) := by
        rw [O.1.2.1, show gq_tot s - fi = (gq_tot s - (fi + 1)) + 1 by omega, nI_pred]
      have hin : vp_in (nI fi) 8192 := vp_in_nI (by omega) (by decide)
      have hmem : gq_mem s (gq_h s fi) := ⟨fi, by omega, rfl⟩
      have snd := O.2.2.2 _ hmem
      have O1 : g2_O g (fi + 1) (nI (gq_tot s - (fi + 1)), s.2) := ⟨⟨show fi + 1 ≤ gq_tot s by omega, rfl, O.1.2.2⟩, O.2⟩
      obtain ⟨wh, fr, to, eit⟩ : ∃ wh fr to, (wh, fr, to) = gq_h s fi := ⟨_, _, _, rfl⟩
      rw [← eit] at it snd
      have w72 : wh < 72 := it.1.1
      -- what the end of either step has to show
      have fin : ∀ s', g2_O g (fi + 1) s' → gq_le (nI (gq_tot s - (fi + 1)), s.2) s' →
          (∀ t sy m e st f, (t = fi ∨ t < fi) → gq_h s t = (sy, m, e) → ∀ u, (u = fi ∨ u < fi) → (t = fi ∨ u = fi) → sy < 8 → gq_h s u = (8 + st, f, m) → gs_aw g st sy → g2_R g s' (st + 1) f e) →
          wX_solveByFacts_4 post m f_present f_n f_keptLength f_pairs (nI (fi + 1)) s'.1 a_kindOf a_lengthOf a_symbolOf a_word a_kept a_made a_other a_byLength a_above a_firstHalf a_secondHalf a_wholeOf a_begun s'.2.1 s'.2.2.1 s'.2.2.2.1 s'.2.2.2.2.1 s'.2.2.2.2.2.1 a_callers a_back a_least := by
        intro s' O' l hnew
        have l' : gq_le s s' := l
        refine ih (fi + 1) s' ⟨O', ?_, fun i hi => gq_mem_le l' (J.2.2.1 i hi), fun r i hr hh hi => g2_R_le l' (J.2.2.2 r i hr hh hi)⟩ (by omega) m (by omega)
        intro t u sy m e st f ht hu et hs eu ha
        rw [l'.2 t (by omega)] at et
        rw [l'.2 u (by omega)] at eu
        by_cases c : t = fi ∨ u = fi
        · exact hnew t sy m e st f (by omega) et u (by omega) c hs eu ha
        · exact g2_R_le l' (J.2.1 t u sy m e st f (by omega) (by omega) et hs eu ha)
      refine And.intro hin (nm_r (e' := nI wh) (by rw [nI_clamp (by omega)]; exact it.2.1) (And.intro hin (nm_r (e' := nI fr) (by rw [nI_clamp (by omega)]; exact it.2.2.1) (And.intro hin (nm_r (e' := nI to) (by rw [nI_clamp (by omega)]; exact it.2.2.2) (nm_r e1 (nm_r e2 ?_)))))))
      refine pk_le 8 wh (fun h8 => ?_) (fun h8 => ?_)
      · rw [show nI wh - 8 = nI (wh - 8) from pk_sub (b := 8) h8]
        have S := snd.2 h8
        refine g2_meetFacts (s := (nI (gq_tot s - (fi + 1)), s.2)) C O1 S.1 S.2 (fun s' O' l hm => fin s' O' l ?_)
        intro t sy m e st f ht et u hu c hs eu ha
        by_cases cu : u = fi
        · rw [cu, ← eit] at eu
          obtain ⟨q1, q2, q3⟩ := g2_pair eu
          have q4 : wh - 8 = st := by omega
          rw [q4, q3, q2] at hm
          refine hm e ?_
          rw [ha.2.2, ← et]
          exact ⟨t, show t < gq_tot s by omega, rfl⟩
        · have ct : t = fi := by omega
          rw [ct, ← eit] at et
          have := (g2_pair et).1
          omega
      · have hc := snd.1 h8
        refine g2_meetStates (s := (nI (gq_tot s - (fi + 1)), s.2)) C O1 h8 hc (fun s' O' l hm => fin s' O' l ?_)
        intro t sy m e st f ht et u hu c hs eu ha
        by_cases ct : t = fi
        · rw [ct, ← eit] at et
          obtain ⟨q1, q2, q3⟩ := g2_pair et
          rw [q1, q2, q3] at hm
          refine hm st f ?_ ha
          rw [← eu]
          exact ⟨u, show u < gq_tot s by omega, rfl⟩
        · have cu : u = fi := by omega
          rw [cu, ← eit] at eu
          have := (g2_pair eu).1
          omega
theorem g2_start (C : gx_C g f_present f_n a_kindOf a_lengthOf a_symbolOf a_word) {s : gq_s} (O : g2_O g 0 s) {post : SX → Prop}
    (hp : ∀ s', g2_J g 0 s' → post (f_present, f_n, f_keptLength, f_pairs, 0, s'.1, a_kindOf, a_lengthOf, a_symbolOf, a_word, a_kept, a_made, a_other, a_byLength, a_above, a_firstHalf, a_secondHalf, a_wholeOf, a_begun, s'.2.1, s'.2.2.1, s'.2.2.2.1, s'.2.2.2.2.1, s'.2.2.2.2.2.1, a_callers, a_back, a_least)) : ∃ n, wX_startFacts_55 post n 0 f_present f_n f_keptLength f_pairs 0 s.1 a_kindOf a_lengthOf a_symbolOf a_word a_kept a_made a_other a_byLength a_above a_firstHalf a_secondHalf a_wholeOf a_begun s.2.1 s.2.2.1 s.2.2.2.1 s.2.2.2.2.1 s.2.2.2.2.2.1 a_callers a_back a_least := by
  have ok := C.1
  have hN := gs_N10 ok
  have eN := C.2.1
  subst eN
  refine gl_ex (fun n i (s : gq_s) => wX_startFacts_55 post n (nI i) f_present (nI (gs_N g)) f_keptLength f_pairs (nI 0) s.1 a_kindOf a_lengthOf a_symbolOf a_word a_kept a_made a_other a_byLength a_above a_firstHalf a_secondHalf a_wholeOf a_begun s.2.1 s.2.2.1 s.2.2.2.1 s.2.2.2.2.1 s.2.2.2.2.2.1 a_callers a_back a_least)
    (fun i s' => g2_O g 0 s' ∧ ∀ i', i' < i → gq_mem s' (5 + gs_W g i', i', i' + 1)) (gs_N g) 0 s (by omega) ⟨O, fun i' h => absurd h (by omega)⟩ ?_ ?_
  · rintro n s1 ⟨O1, m1⟩
    refine br_t (nI_le (by omega) (by omega)) ?_
    refine gl_ex (fun n i (s : gq_s) => wX_startFacts_87 post n (nI i) f_present (nI (gs_N g)) f_keptLength f_pairs (nI 0) s.1 a_kindOf a_lengthOf a_symbolOf a_word a_kept a_made a_other a_byLength a_above a_firstHalf a_secondHalf a_wholeOf a_begun s.2.1 s.2.2.1 s.2.2.2.1 s.2.2.2.2.1 s.2.2.2.2.2.1 a_callers a_back a_least)
      (fun i s' => g2_O g 0 s' ∧ gq_le s1 s' ∧ ∀ r i', r < 16 → gs_H g r = true → i' < i → g2_R g s' (4 * r) i' i') (gs_N g + 1) 0 s1 (by omega) ⟨O1, gq_le_rf s1, fun r i' _ _ h => absurd h (by omega)⟩ ?_ ?_
    · rintro n s2 ⟨O2, l2, m2⟩
      exact br_t (nI_lt (by omega) (by omega)) (hp s2 ⟨O2, fun t u sy m e st f ht => absurd ht (by omega), fun i hi => gq_mem_le l2 (m1 i hi), fun r i hr hh hi => m2 r i hr hh (by omega)⟩)
    · rintro n i s2 hi ⟨O2, l2, m2⟩ go
      refine br_f (nI_nlt (by omega) (by omega)) ?_
      refine gl_ex (fun n' r (s : gq_s) => wX_startFacts_97 post (wX_startFacts_87 post n) (nI i) n' (nI r) f_present (nI (gs_N g)) f_keptLength f_pairs (nI 0) s.1 a_kindOf a_lengthOf a_symbolOf a_word a_kept a_made a_other a_byLength a_above a_firstHalf a_secondHalf a_wholeOf a_begun s.2.1 s.2.2.1 s.2.2.2.1 s.2.2.2.2.1 s.2.2.2.2.2.1 a_callers a_back a_least)
        (fun r s' => g2_O g 0 s' ∧ gq_le s2 s' ∧ ∀ r', r' < r → gs_H g r' = true → g2_R g s' (4 * r') i i) 16 0 s2 (by omega) ⟨O2, gq_le_rf s2, fun r' h => absurd h (by omega)⟩ ?_ ?_
      · rintro n' s3 ⟨O3, l3, m3⟩
        refine br_t (nI_le (a := 16) (by omega) (by omega)) (nm_r (nI_1 i) (go s3 ⟨O3, gq_le_tr l2 l3, fun r i' hr hh hi' => ?_⟩))
        by_cases e : i' = i
        · rw [e]; exact m3 r hr hh
        · exact g2_R_le l3 (m2 r i' hr hh (by omega))
      · rintro n' r s3 hr ⟨O3, l3, m3⟩ go'
        refine br_f (nI_ge (b := 16) (by omega) (by omega)) (gx_has C hr (fun c => br_t rfl (nm_r (nI_1 r) (go' s3 ⟨O3, l3, fun r' hr' hh => ?_⟩))) (fun c => br_f gb_10 ?_))
        · by_cases e : r' = r
          · rw [e, c] at hh; exact absurd hh (by decide)
          · exact m3 r' (by omega) hh
        · rw [ix_m4]
          have e1 : 4 * r / 4 = r := by omega
          have e2 : 4 * r % 4 = 0 := by omega
          refine g2_addOpen C O3 ⟨show 4 * r < 64 by omega, ?_, ?_, Nat.le_refl i, show i ≤ gs_N g by omega, ?_⟩ (fun s4 O4 l4 m4 => nm_r (nI_1 r) (go' s4 ⟨O4, gq_le_tr l3 l4, fun r' hr' hh => ?_⟩))
          · show gs_H g (4 * r / 4) = true
            rw [e1]; exact c
          · show 4 * r % 4 ≤ gs_L g (4 * r / 4)
            omega
          · show gs_pre g (gs_Der g) (4 * r / 4) i (4 * r % 4) i
            rw [e2]; exact rfl
          · by_cases e3 : r' = r
            · rw [e3]; exact m4
            · exact g2_R_le l4 (m3 r' (by omega) hh)
  · rintro n i s1 hi ⟨O1, m1⟩ go
    have hW := gs_W3 ok hi
    refine br_f (nI_ge (by omega) (by omega)) (And.intro (vp_in_nI (by omega) (by decide)) ?_)
    rw [nI_clamp (by omega), C.2.2.2.2.2.2.1 i hi, show (5 : Int32) + nI (gs_W g i) = nI (5 + gs_W g i) from nI_add 5 _, nI_1 i]
    refine g2_addFact ok O1 (by omega) (Or.inr ⟨by omega, rfl, hi, by omega⟩) (fun s2 O2 l2 m2 => nm_e (go s2 ⟨O2, fun i' hi' => ?_⟩))
    by_cases e : i' = i
    · rw [e]; exact m2
    · exact gq_mem_le l2 (m1 i' (by omega))
theorem gx_eng2 (C : gx_C g f_present f_n a_kindOf a_lengthOf a_symbolOf a_word) {post : SX → Prop}
    (hp : ∀ (fi : Nat) (s : gq_s) (a : Nat → Int32), gx_T g a → post (f_present, f_n, f_keptLength, f_pairs, (nI fi), s.1, a_kindOf, a_lengthOf, a_symbolOf, a_word, a_kept, a, a_other, a_byLength, a_above, a_firstHalf, a_secondHalf, a_wholeOf, a_begun, s.2.1, s.2.2.1, s.2.2.2.1, s.2.2.2.2.1, s.2.2.2.2.2.1, a_callers, a_back, a_least)) : wpX_solveByFacts post (f_present, f_n, f_keptLength, f_pairs, f_first, f_waiting, a_kindOf, a_lengthOf, a_symbolOf, a_word, a_kept, a_made, a_other, a_byLength, a_above, a_firstHalf, a_secondHalf, a_wholeOf, a_begun, a_fact, a_open, a_waitWhat, a_waitFrom, a_waitTo, a_callers, a_back, a_least) := by
  have hN := gs_N10 C.1
  refine gl_fill (fun n x a => wX_startFacts_12 (fun u => match u with | (f_present, f_n, f_keptLength, f_pairs, f_first, f_waiting, a_kindOf, a_lengthOf, a_symbolOf, a_word, a_kept, a_made, a_other, a_byLength, a_above, a_firstHalf, a_secondHalf, a_wholeOf, a_begun, a_fact, a_open, a_waitWhat, a_waitFrom, a_waitTo, a_callers, a_back, a_least) => (∃ n4 : Nat, wX_solveByFacts_4 post n4 f_present f_n f_keptLength f_pairs f_first f_waiting a_kindOf a_lengthOf a_symbolOf a_word a_kept a_made a_other a_byLength a_above a_firstHalf a_secondHalf a_wholeOf a_begun a_fact a_open a_waitWhat a_waitFrom a_waitTo a_callers a_back a_least)) f_present f_n f_keptLength f_pairs 0 0 n x a_kindOf a_lengthOf a_symbolOf a_word a_kept a_made a_other a_byLength a_above a_firstHalf a_secondHalf a_wholeOf a_begun a a_open a_waitWhat a_waitFrom a_waitTo a_callers a_back a_least) 88 (fun _ => 0) ?_ ?_ a_fact
  · intro n fa hfa
    refine br_t (nI_le (a := 88) (by omega) (by omega)) ?_
    refine gl_fill (fun n x a => wX_startFacts_33 (fun u => match u with | (f_present, f_n, f_keptLength, f_pairs, f_first, f_waiting, a_kindOf, a_lengthOf, a_symbolOf, a_word, a_kept, a_made, a_other, a_byLength, a_above, a_firstHalf, a_secondHalf, a_wholeOf, a_begun, a_fact, a_open, a_waitWhat, a_waitFrom, a_waitTo, a_callers, a_back, a_least) => (∃ n4 : Nat, wX_solveByFacts_4 post n4 f_present f_n f_keptLength f_pairs f_first f_waiting a_kindOf a_lengthOf a_symbolOf a_word a_kept a_made a_other a_byLength a_above a_firstHalf a_secondHalf a_wholeOf a_begun a_fact a_open a_waitWhat a_waitFrom a_waitTo a_callers a_back a_least)) f_present f_n f_keptLength f_pairs 0 0 n x a_kindOf a_lengthOf a_symbolOf a_word a_kept a_made a_other a_byLength a_above a_firstHalf a_secondHalf a_wholeOf a_begun fa a a_waitWhat a_waitFrom a_waitTo a_callers a_back a_least) 704 (fun _ => 0) ?_ ?_ a_open
    · intro n op hop
      refine br_t (nI_le (a := 704) (by omega) (by omega)) ?_
      refine g2_start (s := (0, fa, op, a_waitWhat, a_waitFrom, a_waitTo, 0, fun _ => (0, 0, 0))) C ⟨⟨Nat.le_refl 0, rfl, fun t ht => absurd ht (Nat.not_lt_zero t), fun t u _ hu => absurd hu (Nat.not_lt_zero u)⟩, ?_, ?_, ?_⟩ (fun s' J => ⟨8000, g2_main C hp 7993 0 s' J (by omega) _ (by omega)⟩)
      · intro sy f t h1 h2 h3
        show bt (fa (sy * 11 + f)) t = true ↔ _
        rw [hfa _ (by omega), b_0]
        constructor
        · intro h; exact absurd h (by decide)
        · rintro ⟨u, hu, _⟩; exact absurd hu (Nat.not_lt_zero u)
      · intro st f t h1 h2 h3
        show bt (op (f * 64 + st)) t = true ↔ _
        rw [hop _ (by omega), b_0]
        constructor
        · intro h; exact absurd h (by decide)
        · rintro ⟨u, hu, _⟩; exact absurd hu (Nat.not_lt_zero u)
      · rintro p ⟨u, hu, _⟩; exact absurd hu (Nat.not_lt_zero u)
    · intro n i a hi hh
      refine br_f (nI_ge (b := 704) (by omega) (by omega)) (And.intro (vp_in_nI hi (by decide)) ?_)
      rw [nI_clamp (by omega)]
      exact nm_e (nm_r (nI_1 i) hh)
  · intro n i a hi hh
    refine br_f (nI_ge (b := 88) (by omega) (by omega)) (And.intro (vp_in_nI hi (by decide)) ?_)
    rw [nI_clamp (by omega)]
    exact nm_e (nm_r (nI_1 i) hh)
end
end
section
/-! engine 1: from left to right -/
def g1_B (b : Nat → Int32) (p st f : Nat) : Prop := p ≤ 10 ∧ st < 64 ∧ f < 32 ∧ bt (b (p * 64 + st)) f = true
def g1_snd (g : gs_G) (b : Nat → Int32) : Prop := ∀ p st f, g1_B b p st f → g4_S g (st, f, p)
def g1_ext (g : gs_G) (pl : Nat) (b0 : Nat → Int32) (P : Prop) (z : Int32) (b : Nat → Int32) : Prop :=
  g1_snd g b ∧ (∀ c j, bt (b0 c) j = true → bt (b c) j = true) ∧ (∀ c, c < pl * 64 → b c = b0 c) ∧
  ((z = 0 ∧ b = b0 ∧ P) ∨ (z = 1 ∧ ∃ c, c < 704 ∧ ∃ j, j < 32 ∧ bt (b0 c) j = false ∧ bt (b c) j = true))
theorem g1_ext_P {g : gs_G} {pl : Nat} {b0 b : Nat → Int32} {z : Int32} {P Q : Prop} (e : P → Q) (x : g1_ext g pl b0 P z b) : g1_ext g pl b0 Q z b :=
  ⟨x.1, x.2.1, x.2.2.1, x.2.2.2.imp (fun c => ⟨c.1, c.2.1, e c.2.2⟩) (fun c => c)⟩
/-- P may use that nothing is new -/
theorem g1_ext_Q {g : gs_G} {pl : Nat} {b0 b : Nat → Int32} {z : Int32} {P Q : Prop} (e : z = 0 → b = b0 → P → Q) (x : g1_ext g pl b0 P z b) : g1_ext g pl b0 Q z b :=
  ⟨x.1, x.2.1, x.2.2.1, x.2.2.2.imp (fun c => ⟨c.1, c.2.1, e c.1 c.2.1 c.2.2⟩) (fun c => c)⟩
theorem g1_ext01 {g : gs_G} {pl : Nat} {b0 b : Nat → Int32} {z : Int32} {P : Prop} (x : g1_ext g pl b0 P z b) : z = 0 ∨ z = 1 :=
  x.2.2.2.imp (fun c => c.1) (fun c => c.1)
theorem g1_ext_rf {g : gs_G} {pl : Nat} {b : Nat → Int32} {P : Prop} (s : g1_snd g b) (p : P) : g1_ext g pl b P 0 b :=
  ⟨s, fun _ _ h => h, fun _ _ => rfl, Or.inl ⟨rfl, rfl, p⟩⟩
theorem g1_ext_tr {g : gs_G} {pl : Nat} {b0 b b' : Nat → Int32} {z z' : Int32} {P Q : Prop} (x : g1_ext g pl b0 P z b) (y : g1_ext g pl b Q z' b') : g1_ext g pl b0 (P ∧ b = b0 ∧ Q) (z ||| z') b' := by
  refine ⟨y.1, fun c j h => y.2.1 c j (x.2.1 c j h), fun c hc => (y.2.2.1 c hc).trans (x.2.2.1 c hc), ?_⟩
  rcases y.2.2.2 with ⟨e1, e2, q⟩ | ⟨e1, c, hc, j, hj, h0, h1⟩
  · rw [e1, gb_or0, e2]
    rcases x.2.2.2 with ⟨f1, f2, p⟩ | f
    · exact Or.inl ⟨f1, f2, p, f2, q⟩
    · exact Or.inr f
  · rw [e1, gb_10or (g1_ext01 x)]
    exact Or.inr ⟨rfl, c, hc, j, hj, ts_nt (fun h => by have := x.2.1 c j h; rw [h0] at this; exact absurd this (by decide)), h1⟩
theorem g1_B_mono {b b' : Nat → Int32} (h : ∀ c j, bt (b c) j = true → bt (b' c) j = true) {p st f : Nat} (x : g1_B b p st f) : g1_B b' p st f := ⟨x.1, x.2.1, x.2.2.1, h _ _ x.2.2.2⟩
/-- place p is worked off as far as state st goes -/
def g1_cl (g : gs_G) (b : Nat → Int32) (p st : Nat) : Prop := ∀ f, f < 32 → bt (b (p * 64 + st)) f = true →
  (st % 4 = gs_L g (st / 4) → ∀ st2 f2, gs_aw g st2 (gs_K g (st / 4)) → g1_B b f st2 f2 → g1_B b p (st2 + 1) f2) ∧
  (st % 4 < gs_L g (st / 4) → gs_S g (st / 4) (st % 4) < 5 → ∀ r, r < 16 → gs_H g r = true → gs_K g r = gs_S g (st / 4) (st % 4) → g1_B b p (4 * r) p) ∧
  (st % 4 < gs_L g (st / 4) → gs_let g (gs_S g (st / 4) (st % 4)) p → g1_B b (p + 1) (st + 1) f)
theorem g1_cl_keep {g : gs_G} (hN : gs_N g ≤ 10) {b b' : Nat → Int32} {q p st : Nat} (hq : q ≤ 10) (hs : g1_snd g b) (hst : st < 64) (hm : ∀ c j, bt (b c) j = true → bt (b' c) j = true) (hl : ∀ c, c < q * 64 → b' c = b c) (hp : p < q) (h : g1_cl g b p st) : g1_cl g b' p st := by
  intro f hf hb
  rw [hl _ (by omega)] at hb
  have h1 := h f hf hb
  have h2 : f ≤ p := (hs p st f ⟨by omega, hst, hf, hb⟩).2.2.2.1
  refine ⟨fun e st2 f2 ha hB => ?_, fun e1 e2 r hr hh hk => g1_B_mono hm (h1.2.1 e1 e2 r hr hh hk), fun e1 e2 => g1_B_mono hm (h1.2.2 e1 e2)⟩
  refine g1_B_mono hm (h1.1 e st2 f2 ha ⟨hB.1, hB.2.1, hB.2.2.1, ?_⟩)
  have := hB.2.2.2
  rw [hl _ (by have := hB.2.1; omega)] at this
  exact this
theorem g1_comp {g : gs_G} (ok : gs_ok g) {b : Nat → Int32} {q : Nat} (hs : g1_snd g b) (hcl : ∀ p st, p ≤ q → st < 64 → g1_cl g b p st) {k i j : Nat} (hd : gs_Der g k i j) :
    j ≤ q → ∀ st f, g1_B b i st f → gs_aw g st k → g1_B b j (st + 1) f := by
  have hN := gs_N10 ok
  refine gs_Der_ind (fun k i j => j ≤ q → ∀ st f, g1_B b i st f → gs_aw g st k → g1_B b j (st + 1) f) ?_ hd
  intro r hr hh i j hi hp hj st f hB ha
  have hL := gs_L3 ok hr
  have rgD : ∀ k i j, (gs_Der g k i j ∧ (j ≤ q → ∀ st f, g1_B b i st f → gs_aw g st k → g1_B b j (st + 1) f)) → i ≤ j ∧ j ≤ gs_N g := fun k i j c => gs_Der_rng c.1
  have rg := gs_pre_rng rgD hi hp
  have start : g1_B b i (4 * r) i := (hcl i st (by omega) hB.2.1 f hB.2.2.1 hB.2.2.2).2.1 ha.2.1 (by rw [ha.2.2]; exact gs_K5 ok hr) r hr hh ha.2.2.symm
  have pf : ∀ d m, d ≤ gs_L g r → gs_pre g (fun k i j => gs_Der g k i j ∧ (j ≤ q → ∀ st f, g1_B b i st f → gs_aw g st k → g1_B b j (st + 1) f)) r i d m → m ≤ q → g1_B b m (4 * r + d) i := by
    intro d
    induction d with
    | zero => intro m _ h _; have e : m = i := h; rw [e]; exact start
    | succ d ih =>
      intro m hd h hm
      obtain ⟨m', h1, h2⟩ := h
      have rg2 := gs_cov_rng rgD h2
      have hB1 := ih m' (by omega) h1 (by omega)
      have e1 : (4 * r + d) / 4 = r := by omega
      have e2 : (4 * r + d) % 4 = d := by omega
      rcases h2 with ⟨a, c⟩ | ⟨a, e, c, w⟩
      · refine c.2 hm (4 * r + d) i hB1 ⟨?_, ?_, ?_⟩
        · rw [e1]; exact hh
        · rw [e1, e2]; omega
        · rw [e1, e2]
      · have h3 := (hcl m' (4 * r + d) (by omega) hB1.2.1 i hB1.2.2.1 hB1.2.2.2).2.2
        rw [e1, e2] at h3
        rw [e]
        exact h3 (by omega) ⟨a, c, w⟩
  have hB2 := pf (gs_L g r) j (Nat.le_refl _) hp hj
  have e1 : (4 * r + gs_L g r) / 4 = r := by omega
  have e2 : (4 * r + gs_L g r) % 4 = gs_L g r := by omega
  have h3 := (hcl j (4 * r + gs_L g r) hj hB2.2.1 i hB2.2.2.1 hB2.2.2.2).1
  rw [e1, e2] at h3
  exact h3 rfl st f ha hB
/-- what is found at place q -/
theorem g1_found {g : gs_G} (ok : gs_ok g) {b : Nat → Int32} {q s k : Nat} (hs : g1_snd g b) (hcl : ∀ p st, p ≤ q → st < 64 → g1_cl g b p st) (hq : q ≤ gs_N g) (hst : ∀ r, r < 16 → gs_H g r = true → gs_K g r = k → g1_B b s (4 * r) s) :
    (∃ r, r < 16 ∧ gs_H g r = true ∧ gs_K g r = k ∧ g1_B b q (4 * r + gs_L g r) s) ↔ gs_Der g k s q := by
  have hN := gs_N10 ok
  constructor
  · rintro ⟨r, hr, hh, hk, hB⟩
    have hL := gs_L3 ok hr
    have S := hs _ _ _ hB
    have e1 : (4 * r + gs_L g r) / 4 = r := by omega
    have e2 : (4 * r + gs_L g r) % 4 = gs_L g r := by omega
    have h6 : gs_pre g (gs_Der g) ((4 * r + gs_L g r) / 4) s ((4 * r + gs_L g r) % 4) q := S.2.2.2.2.2
    have h4 : s ≤ q := S.2.2.2.1
    rw [e1, e2] at h6
    rw [← hk]
    exact gs_Der_cl g r hr hh s q (by omega) h6
  · intro hd
    obtain ⟨r, hr, hh, hk, hi, hp⟩ := gs_Der_inv hd
    have hL := gs_L3 ok hr
    refine ⟨r, hr, hh, hk, ?_⟩
    have pf : ∀ d m, d ≤ gs_L g r → gs_pre g (gs_Der g) r s d m → m ≤ q → g1_B b m (4 * r + d) s := by
      intro d
      induction d with
      | zero => intro m _ h _; have e : m = s := h; rw [e]; exact hst r hr hh hk
      | succ d ih =>
        intro m hd h hm
        obtain ⟨m', h1, h2⟩ := h
        have rg2 := gs_cov_rng (fun _ _ _ c => gs_Der_rng c) h2
        have hB1 := ih m' (by omega) h1 (by omega)
        have e1 : (4 * r + d) / 4 = r := by omega
        have e2 : (4 * r + d) % 4 = d := by omega
        rcases h2 with ⟨a, c⟩ | ⟨a, e, c, w⟩
        · refine g1_comp ok hs hcl c hm (4 * r + d) s hB1 ⟨?_, ?_, ?_⟩
          · rw [e1]; exact hh
          · rw [e1, e2]; omega
          · rw [e1, e2]
        · have h3 := (hcl m' (4 * r + d) (by omega) hB1.2.1 s hB1.2.2.1 hB1.2.2.2).2.2
          rw [e1, e2] at h3
          rw [e]
          exact h3 (by omega) ⟨a, c, w⟩
    exact pf (gs_L g r) q (Nat.le_refl _) hp (Nat.le_refl q)
section
variable {g : gs_G} {f_present f_n f_keptLength f_pairs f_first f_waiting : Int32} {a_kindOf a_lengthOf a_symbolOf a_word a_kept a_made a_other a_byLength a_above a_firstHalf a_secondHalf a_wholeOf a_begun a_fact a_open a_waitWhat a_waitFrom a_waitTo a_callers a_back a_least : Nat → Int32}
theorem g1_begin (hN : gs_N g ≤ 10) (hs : g1_snd g a_begun) {pl q st : Nat} (hpl : pl ≤ q) (hq : q ≤ gs_N g) (hst : st < 64) {x : Int32} (hx : ∀ f, f < 32 → bt x f = true → g4_S g (st, f, q)) {post : Int32 → SX → Prop}
    (h : ∀ z b, g1_ext g pl a_begun True z b → (∀ f, f < 32 → bt x f = true → g1_B b q st f) → post z (f_present, f_n, f_keptLength, f_pairs, f_first, f_waiting, a_kindOf, a_lengthOf, a_symbolOf, a_word, a_kept, a_made, a_other, a_byLength, a_above, a_firstHalf, a_secondHalf, a_wholeOf, b, a_fact, a_open, a_waitWhat, a_waitFrom, a_waitTo, a_callers, a_back, a_least)) : wpX_begin post (f_present, f_n, f_keptLength, f_pairs, f_first, f_waiting, a_kindOf, a_lengthOf, a_symbolOf, a_word, a_kept, a_made, a_other, a_byLength, a_above, a_firstHalf, a_secondHalf, a_wholeOf, a_begun, a_fact, a_open, a_waitWhat, a_waitFrom, a_waitTo, a_callers, a_back, a_least) (nI q) (nI st) x := by
  have hc : q * 64 + st < 704 := by omega
  have snd : g1_snd g (upd a_begun (q * 64 + st) (a_begun (q * 64 + st) ||| x)) := by
    rintro p st' f ⟨h1, h2, h3, h4⟩
    rcases (gx_bup _ _).mp h4 with h4 | ⟨e, h4⟩
    · exact hs p st' f ⟨h1, h2, h3, h4⟩
    · have e1 : p = q := by omega
      have e2 : st' = st := by omega
      rw [e1, e2]
      exact hx f h3 h4
  have low : ∀ c, c < pl * 64 → upd a_begun (q * 64 + st) (a_begun (q * 64 + st) ||| x) c = a_begun c := fun c hc => pk_un (by omega)
  have hB : ∀ f, f < 32 → bt x f = true → g1_B (upd a_begun (q * 64 + st) (a_begun (q * 64 + st) ||| x)) q st f := fun f hf hb => ⟨by omega, hst, hf, (gx_bup _ _).mpr (Or.inr ⟨rfl, hb⟩)⟩
  refine nm_r (ix_64 q st) (And.intro (vp_in_nI hc (by decide)) ?_)
  rw [nI_clamp (by omega)]
  refine br_c (fun c => ?_) (fun c => ?_)
  · refine And.intro (vp_in_nI hc (by decide)) (And.intro (vp_in_nI hc (by decide)) ?_)
    rw [nI_clamp (by omega)]
    refine nm_e (And.intro (gb_nar (Or.inl rfl)) (h 0 _ ⟨snd, fun c j hb => (gx_bup _ _).mpr (Or.inl hb), low, Or.inl ⟨rfl, gb_upd_id (gb_or_sub (gb_news.mp c)), trivial⟩⟩ hB))
  · refine And.intro (vp_in_nI hc (by decide)) (And.intro (vp_in_nI hc (by decide)) ?_)
    rw [nI_clamp (by omega)]
    obtain ⟨j, hj, h1, h2⟩ := gb_nnews c
    exact nm_e (And.intro (gb_nar (Or.inr rfl)) (h 1 _ ⟨snd, fun c j hb => (gx_bup _ _).mpr (Or.inl hb), low, Or.inr ⟨rfl, _, hc, j, hj, h2, (gx_bup _ _).mpr (Or.inr ⟨rfl, h1⟩)⟩⟩ hB))
theorem g4_S_0 {r q : Nat} (hr : r < 16) (hh : gs_H g r = true) (hq : q ≤ gs_N g) : g4_S g (4 * r, q, q) := by
  have e1 : 4 * r / 4 = r := by omega
  have e2 : 4 * r % 4 = 0 := by omega
  refine ⟨show 4 * r < 64 by omega, ?_, ?_, Nat.le_refl q, hq, ?_⟩
  · show gs_H g (4 * r / 4) = true
    rw [e1]; exact hh
  · show 4 * r % 4 ≤ gs_L g (4 * r / 4)
    omega
  · show gs_pre g (gs_Der g) (4 * r / 4) q (4 * r % 4) q
    rw [e2]; exact rfl
theorem g1_expect (C : gx_C g f_present f_n a_kindOf a_lengthOf a_symbolOf a_word) (hs : g1_snd g a_begun) {pl q k : Nat} (hpl : pl ≤ q) (hq : q ≤ gs_N g) (hk : k < 5) {post : Int32 → SX → Prop}
    (h : ∀ z b, g1_ext g pl a_begun True z b → (∀ r, r < 16 → gs_H g r = true → gs_K g r = k → g1_B b q (4 * r) q) → post z (f_present, f_n, f_keptLength, f_pairs, f_first, f_waiting, a_kindOf, a_lengthOf, a_symbolOf, a_word, a_kept, a_made, a_other, a_byLength, a_above, a_firstHalf, a_secondHalf, a_wholeOf, b, a_fact, a_open, a_waitWhat, a_waitFrom, a_waitTo, a_callers, a_back, a_least)) : wpX_expect post (f_present, f_n, f_keptLength, f_pairs, f_first, f_waiting, a_kindOf, a_lengthOf, a_symbolOf, a_word, a_kept, a_made, a_other, a_byLength, a_above, a_firstHalf, a_secondHalf, a_wholeOf, a_begun, a_fact, a_open, a_waitWhat, a_waitFrom, a_waitTo, a_callers, a_back, a_least) (nI k) (nI q) := by
  have ok := C.1
  have hN := gs_N10 ok
  refine gl_ex (fun n r (s : Int32 × (Nat → Int32)) => wX_expect_5 post (nI k) (nI q) n s.1 (nI r) f_present f_n f_keptLength f_pairs f_first f_waiting a_kindOf a_lengthOf a_symbolOf a_word a_kept a_made a_other a_byLength a_above a_firstHalf a_secondHalf a_wholeOf s.2 a_fact a_open a_waitWhat a_waitFrom a_waitTo a_callers a_back a_least)
    (fun r s => g1_ext g pl a_begun True s.1 s.2 ∧ ∀ r', r' < r → gs_H g r' = true → gs_K g r' = k → g1_B s.2 q (4 * r') q) 16 0 (0, a_begun) (by omega) ⟨g1_ext_rf hs trivial, fun r' h => absurd h (by omega)⟩ ?_ ?_
  · rintro n ⟨z, b⟩ ⟨y, m⟩
    exact br_t (nI_le (a := 16) (by omega) (by omega)) (And.intro (gb_nar (g1_ext01 y)) (h z b y m))
  · rintro n r ⟨z, b⟩ hr ⟨y, m⟩ go
    have hK := gs_K5 ok hr
    refine br_f (nI_ge (b := 16) (by omega) (by omega)) (gx_has C hr (fun c => br_t rfl (nm_r (nI_1 r) (go (z, b) ⟨y, fun r' hr' hh hk' => ?_⟩))) (fun c => br_f gb_10 (And.intro (vp_in_nI hr (by decide)) ?_)))
    · by_cases e : r' = r
      · rw [e, c] at hh; exact absurd hh (by decide)
      · exact m r' (by omega) hh hk'
    · rw [nI_clamp (by omega), C.2.2.2.1 _ hr]
      refine pk_eq (gs_K g r) k (fun e => ?_) (fun e => nm_r (nI_1 r) (go (z, b) ⟨y, fun r' hr' hh hk' => ?_⟩))
      · rw [ix_m4]
        refine g1_begin (a_begun := b) hN y.1 hpl hq (by omega) (fun f hf hb => ?_) (fun z' b' y' m' => nm_e (nm_r (nI_1 r) (go (_, b') ⟨g1_ext_P (fun _ => trivial) (g1_ext_tr y y'), fun r' hr' hh hk' => ?_⟩)))
        · rw [gb_one (by omega) hf, decide_eq_true_eq] at hb
          rw [hb]
          exact g4_S_0 hr c hq
        · by_cases e1 : r' = r
          · rw [e1]
            exact m' q (by omega) (by rw [gb_one (by omega) (by omega)]; simp)
          · exact g1_B_mono y'.2.1 (m r' (by omega) hh hk')
      · by_cases e1 : r' = r
        · rw [e1] at hk'; exact absurd hk' e
        · exact m r' (by omega) hh hk'
end
end
section
/-! engine 1: finish, goRound, goForwards -/
section
variable {g : gs_G} {f_present f_n f_keptLength f_pairs f_first f_waiting : Int32} {a_kindOf a_lengthOf a_symbolOf a_word a_kept a_made a_other a_byLength a_above a_firstHalf a_secondHalf a_wholeOf a_begun a_fact a_open a_waitWhat a_waitFrom a_waitTo a_callers a_back a_least : Nat → Int32}
theorem g1_finish (C : gx_C g f_present f_n a_kindOf a_lengthOf a_symbolOf a_word) (hs : g1_snd g a_begun) {q r : Nat} (hr : r < 16) (hq : q ≤ gs_N g) {x : Int32} (hx : ∀ f, f < 32 → bt x f = true → f ≤ q ∧ gs_Der g (gs_K g r) f q) {post : Int32 → SX → Prop}
    (h : ∀ z b, g1_ext g q a_begun (∀ f, f < 32 → bt x f = true → ∀ st2 f2, gs_aw g st2 (gs_K g r) → g1_B a_begun f st2 f2 → g1_B a_begun q (st2 + 1) f2) z b → post z (f_present, f_n, f_keptLength, f_pairs, f_first, f_waiting, a_kindOf, a_lengthOf, a_symbolOf, a_word, a_kept, a_made, a_other, a_byLength, a_above, a_firstHalf, a_secondHalf, a_wholeOf, b, a_fact, a_open, a_waitWhat, a_waitFrom, a_waitTo, a_callers, a_back, a_least)) : wpX_finish post (f_present, f_n, f_keptLength, f_pairs, f_first, f_waiting, a_kindOf, a_lengthOf, a_symbolOf, a_word, a_kept, a_made, a_other, a_byLength, a_above, a_firstHalf, a_secondHalf, a_wholeOf, a_begun, a_fact, a_open, a_waitWhat, a_waitFrom, a_waitTo, a_callers, a_back, a_least) (nI r) x (nI q) := by
  have ok := C.1
  have hN := gs_N10 ok
  have hK := gs_K5 ok hr
  refine gl_ex (fun n f (s : Int32 × (Nat → Int32)) => wX_finish_6 post (nI r) x (nI q) n s.1 (nI f) f_present f_n f_keptLength f_pairs f_first f_waiting a_kindOf a_lengthOf a_symbolOf a_word a_kept a_made a_other a_byLength a_above a_firstHalf a_secondHalf a_wholeOf s.2 a_fact a_open a_waitWhat a_waitFrom a_waitTo a_callers a_back a_least)
    (fun f s => g1_ext g q a_begun (∀ f', f' < f → bt x f' = true → ∀ st2 f2, gs_aw g st2 (gs_K g r) → g1_B a_begun f' st2 f2 → g1_B a_begun q (st2 + 1) f2) s.1 s.2) (q + 1) 0 (0, a_begun) (by omega) (g1_ext_rf hs (fun f' h => absurd h (by omega))) ?_ ?_
  · rintro n ⟨z, b⟩ y
    exact br_t (nI_lt (by omega) (by omega)) (And.intro (gb_nar (g1_ext01 y)) (h z b (g1_ext_P (fun p f hf hb => p f (by have := (hx f hf hb).1; omega) hb) y)))
  · rintro n f ⟨z, b⟩ hf y go
    refine br_f (nI_nlt (by omega) (by omega)) ?_
    refine gl_ex (fun n' st (s : Int32 × (Nat → Int32)) => wX_finish_15 post (wX_finish_6 post (nI r) x (nI q) n) (nI r) x (nI q) (nI f) n' s.1 (nI st) f_present f_n f_keptLength f_pairs f_first f_waiting a_kindOf a_lengthOf a_symbolOf a_word a_kept a_made a_other a_byLength a_above a_firstHalf a_secondHalf a_wholeOf s.2 a_fact a_open a_waitWhat a_waitFrom a_waitTo a_callers a_back a_least)
      (fun st s => g1_ext g q a_begun ((∀ f', f' < f → bt x f' = true → ∀ st2 f2, gs_aw g st2 (gs_K g r) → g1_B a_begun f' st2 f2 → g1_B a_begun q (st2 + 1) f2) ∧ (bt x f = true → ∀ st2 f2, st2 < st → gs_aw g st2 (gs_K g r) → g1_B a_begun f st2 f2 → g1_B a_begun q (st2 + 1) f2)) s.1 s.2) 64 0 (z, b) (by omega) (g1_ext_P (fun p => ⟨p, fun _ st2 f2 h => absurd h (by omega)⟩) y) ?_ ?_
    · rintro n' ⟨z', b'⟩ y'
      refine br_t (nI_le (a := 64) (by omega) (by omega)) (nm_r (nI_1 f) (go (z', b') (g1_ext_P (fun p f' hf' hb st2 f2 ha hB => ?_) y')))
      by_cases e : f' = f
      · rw [e] at hb hB
        exact p.2 hb st2 f2 hB.2.1 ha hB
      · exact p.1 f' (by omega) hb st2 f2 ha hB
    · rintro n' st ⟨z', b'⟩ hst y' go'
      refine br_f (nI_ge (b := 64) (by omega) (by omega)) (gb_br f (fun c => nm_r (nI_1 f) (go (z', b') (g1_ext_P (fun p f' hf' hb st2 f2 ha hB => ?_) y'))) (fun c => And.intro (vp_in_nI hr (by decide)) ?_))
      · by_cases e : f' = f
        · rw [e, c] at hb; exact absurd hb (by decide)
        · exact p.1 f' (by omega) hb st2 f2 ha hB
      · rw [nI_clamp (by omega), C.2.2.2.1 _ hr]
        refine gx_aw C hst (by omega) (fun w hw => gs_tf_br hw (fun no => nm_r (nI_1 st) (go' (z', b') (g1_ext_P (fun p => ⟨p.1, fun hb st2 f2 hs2 ha hB => ?_⟩) y'))) (fun yes => ?_))
        · by_cases e : st2 = st
          · rw [e] at ha; exact absurd ha no
          · exact p.2 hb st2 f2 (by omega) ha hB
        · refine And.intro (by rw [ix_64]; exact vp_in_nI (by omega) (by decide)) ?_
          rw [ix_64, nI_clamp (by omega), nI_1 st]
          have hd := (hx f (by omega) c).2
          have hst3 : st + 1 < 64 := by
            have h1 := yes.2.1
            have h2 := gs_L3 ok (show st / 4 < 16 by omega)
            omega
          refine g1_begin (a_begun := b') hN y'.1 (Nat.le_refl q) hq hst3 (fun f2 hf2 hb2 => ?_) (fun z3 b3 y3 m3 => nm_e (nm_e (go' (_, b3) (g1_ext_P ?_ (g1_ext_tr y' (g1_ext_Q (Q := ∀ f2, g1_B b' f st f2 → g1_B b' q (st + 1) f2) (fun _ (e : b3 = b') _ f2 hB => e ▸ m3 f2 hB.2.2.1 hB.2.2.2) y3))))))
          · have S := y'.1 f st f2 ⟨by omega, hst, hf2, hb2⟩
            exact g4_S_next ok S yes.2.1 (by rw [yes.2.2]; exact Or.inl ⟨hK, hd⟩)
          · rintro ⟨p, eb, p2⟩
            refine ⟨p.1, fun hb st2 f2 hs2 ha hB => ?_⟩
            by_cases e : st2 = st
            · rw [e] at hB ⊢
              have eb' : b' = a_begun := eb
              rw [eb'] at p2
              exact p2 f2 hB
            · exact p.2 hb st2 f2 (by omega) ha hB
theorem g1_round (C : gx_C g f_present f_n a_kindOf a_lengthOf a_symbolOf a_word) (hs : g1_snd g a_begun) {q : Nat} (hq : q ≤ gs_N g) {post : Int32 → SX → Prop}
    (h : ∀ z b, g1_ext g q a_begun (∀ st, st < 64 → g1_cl g a_begun q st) z b → post z (f_present, f_n, f_keptLength, f_pairs, f_first, f_waiting, a_kindOf, a_lengthOf, a_symbolOf, a_word, a_kept, a_made, a_other, a_byLength, a_above, a_firstHalf, a_secondHalf, a_wholeOf, b, a_fact, a_open, a_waitWhat, a_waitFrom, a_waitTo, a_callers, a_back, a_least)) : wpX_goRound post (f_present, f_n, f_keptLength, f_pairs, f_first, f_waiting, a_kindOf, a_lengthOf, a_symbolOf, a_word, a_kept, a_made, a_other, a_byLength, a_above, a_firstHalf, a_secondHalf, a_wholeOf, a_begun, a_fact, a_open, a_waitWhat, a_waitFrom, a_waitTo, a_callers, a_back, a_least) (nI q) := by
  have ok := C.1
  have hN := gs_N10 ok
  refine gl_ex (fun n st (s : Int32 × (Nat → Int32)) => wX_goRound_4 post (nI q) n s.1 (nI st) f_present f_n f_keptLength f_pairs f_first f_waiting a_kindOf a_lengthOf a_symbolOf a_word a_kept a_made a_other a_byLength a_above a_firstHalf a_secondHalf a_wholeOf s.2 a_fact a_open a_waitWhat a_waitFrom a_waitTo a_callers a_back a_least)
    (fun st s => g1_ext g q a_begun (∀ st', st' < st → g1_cl g a_begun q st') s.1 s.2) 64 0 (0, a_begun) (by omega) (g1_ext_rf hs (fun f' h => absurd h (by omega))) ?_ ?_
  · rintro n ⟨z, b⟩ y
    exact br_t (nI_le (a := 64) (by omega) (by omega)) (And.intro (gb_nar (g1_ext01 y)) (h z b y))
  · rintro n st ⟨z, b⟩ hst y go
    have hr : st / 4 < 16 := by omega
    have hL := gs_L3 ok hr
    -- one step: b to b', with what it says of state st
    have step : ∀ z' b', g1_ext g q b (g1_cl g b q st) z' b' → wX_goRound_4 post (nI q) n (z ||| z') (nI (st + 1)) f_present f_n f_keptLength f_pairs f_first f_waiting a_kindOf a_lengthOf a_symbolOf a_word a_kept a_made a_other a_byLength a_above a_firstHalf a_secondHalf a_wholeOf b' a_fact a_open a_waitWhat a_waitFrom a_waitTo a_callers a_back a_least := by
      intro z' b' y'
      refine go (_, b') (g1_ext_P ?_ (g1_ext_tr y y'))
      rintro ⟨p, eb, p2⟩ st' hst'
      by_cases e : st' = st
      · have eb' : b = a_begun := eb
        rw [eb'] at p2
        rw [e]; exact p2
      · exact p st' (by omega)
    have y1 : g1_snd g b := y.1
    refine br_f (nI_ge (b := 64) (by omega) (by omega)) (And.intro (by rw [ix_64]; exact vp_in_nI (by omega) (by decide)) ?_)
    rw [ix_64, nI_clamp (by omega)]
    refine nm_e (And.intro ix_40 (nm_r (ix_d4 (by omega)) (br_c (fun c => br_t c (nm_r (nI_1 st) ?_)) (fun c => And.intro ix_40 (And.intro (vp_in_nI hr (by decide)) ?_)))))
    · have := step 0 b (g1_ext_rf y1 (fun f hf hb => by
        have c' : b (q * 64 + st) = 0 := c
        rw [c', b_0] at hb
        exact absurd hb (by decide)))
      rw [gb_or0] at this
      exact this
    · rw [nI_clamp (by omega), C.2.2.2.2.1 _ hr]
      have c' : ¬ b (q * 64 + st) = 0 := c
      obtain ⟨f0, hf0, hb0⟩ := gb_nz c'
      have S0 := y1 q st f0 ⟨by omega, hst, hf0, hb0⟩
      have h4 : gs_H g (st / 4) = true := S0.2.1
      have h5 : st % 4 ≤ gs_L g (st / 4) := S0.2.2.1
      refine pk_eq (st % 4) (gs_L g (st / 4)) (fun e => ?_) (fun e => br_f c (And.intro ix_40 ?_)) (ix_r4 (by omega))
      · refine g1_finish (a_begun := b) C y1 hr hq (fun f hf hb => ?_) (fun z' b' y' => nm_e (nm_r (nI_1 st) (step z' b' (g1_ext_P (fun p f hf hb => ⟨fun _ st2 f2 ha hB => p f hf hb st2 f2 ha hB, fun e1 => ?_, fun e1 => ?_⟩) y'))))
        · have S := y1 q st f ⟨by omega, hst, hf, hb⟩
          have h6 : gs_pre g (gs_Der g) (st / 4) f (st % 4) q := S.2.2.2.2.2
          have h7 : f ≤ q := S.2.2.2.1
          rw [e] at h6
          exact ⟨h7, gs_Der_cl g _ hr h4 f q (by omega) h6⟩
        · omega
        · omega
      · rw [ix_r4 (by omega)]
        have hd3 : st % 4 < 3 := by omega
        have h8 := gs_S8 ok hr hd3
        refine gx_sym C hr hd3 ?_
        refine pk_le 5 (gs_S g (st / 4) (st % 4)) (fun s5 => ?_) (fun s5 => ?_)
        · refine gx_let C h8 hq (fun w hw => gs_tf_br hw (fun no => ?_) (fun yes => ?_))
          · refine nm_e (nm_r (nI_1 st) (step 0 b (g1_ext_rf y1 (fun f hf hb => ⟨fun e1 => absurd e1 e, fun _ e2 => ?_, fun _ e2 => absurd e2 no⟩))))
            omega
          · rw [nI_1, nI_1]
            have hq1 := yes.2.1
            refine g1_begin (a_begun := b) hN y1 (show q ≤ q + 1 by omega) hq1 (show st + 1 < 64 by omega) (fun f hf hb => ?_) (fun z' b' y' m' => ?_)
            · have S := y1 q st f ⟨by omega, hst, hf, hb⟩
              exact g4_S_next ok S (by omega) (Or.inr ⟨s5, rfl, yes.2.1, yes.2.2⟩)
            · have fin := step z' b' (g1_ext_Q (fun _ (eb : b' = b) _ f hf hb => ⟨fun e1 => absurd e1 e, fun _ e2 => by omega, fun _ _ => eb ▸ m' f hf hb⟩) y')
              rcases g1_ext01 y' with ez | ez
              · rw [ez] at fin ⊢
                exact br_t rfl (nm_e (nm_e fin))
              · rw [ez] at fin ⊢
                exact br_f gb_10 (nm_e (nm_e fin))
        · refine g1_expect (a_begun := b) C y1 (Nat.le_refl q) hq s5 (fun z' b' y' m' => nm_e (nm_r (nI_1 st) (step z' b' (g1_ext_Q (fun _ (eb : b' = b) _ f hf hb => ⟨fun e1 => absurd e1 e, fun _ _ r' hr' hh hk => eb ▸ m' r' hr' hh hk, fun _ e2 => ?_⟩) y'))))
          have := e2.1
          omega
/-- the rounds at one place -/
theorem g1_42 (C : gx_C g f_present f_n a_kindOf a_lengthOf a_symbolOf a_word) {q : Nat} (hq : q ≤ gs_N g) {post : SX → Prop} {J31 : Int32 → Int32 → Int32 → Int32 → Int32 → Int32 → Int32 → (Nat → Int32) → (Nat → Int32) → (Nat → Int32) → (Nat → Int32) → (Nat → Int32) → (Nat → Int32) → (Nat → Int32) → (Nat → Int32) → (Nat → Int32) → (Nat → Int32) → (Nat → Int32) → (Nat → Int32) → (Nat → Int32) → (Nat → Int32) → (Nat → Int32) → (Nat → Int32) → (Nat → Int32) → (Nat → Int32) → (Nat → Int32) → (Nat → Int32) → (Nat → Int32) → Prop} {x1 x2 : Int32}
    (hJ : ∀ b, g1_snd g b → (∀ st, st < 64 → g1_cl g b q st) → (∀ c j, bt (a_begun c) j = true → bt (b c) j = true) → (∀ c, c < q * 64 → b c = a_begun c) → ∃ n, wX_goForwards_60 post J31 x1 x2 (nI q) f_present f_n f_keptLength f_pairs f_first f_waiting n 0 a_kindOf a_lengthOf a_symbolOf a_word a_kept a_made a_other a_byLength a_above a_firstHalf a_secondHalf a_wholeOf b a_fact a_open a_waitWhat a_waitFrom a_waitTo a_callers a_back a_least) :
    ∀ d z b, g1_snd g b → (z = 0 → ∀ st, st < 64 → g1_cl g b q st) → (∀ c j, bt (a_begun c) j = true → bt (b c) j = true) → (∀ c, c < q * 64 → b c = a_begun c) → 22528 - gs_cn (gx_bf b) (704 * 32) < d → ∀ n, d < n →
      wX_goForwards_42 post J31 x1 x2 (nI q) n z f_present f_n f_keptLength f_pairs f_first f_waiting a_kindOf a_lengthOf a_symbolOf a_word a_kept a_made a_other a_byLength a_above a_firstHalf a_secondHalf a_wholeOf b a_fact a_open a_waitWhat a_waitFrom a_waitTo a_callers a_back a_least := by
  intro d
  induction d with
  | zero => intro z b _ _ _ _ hd; omega
  | succ d ih =>
    intro z b hs hc hm hl hd n hn
    obtain ⟨m, rfl⟩ : ∃ m, n = m + 1 := ⟨n - 1, by omega⟩
    refine br_c (fun e => hJ b hs (hc e) hm hl) (fun e => g1_round (a_begun := b) C hs hq (fun z' b' y => ?_))
    rcases y.2.2.2 with ⟨e1, e2, e3⟩ | ⟨e1, c, hc1, j, hj, h0, h1⟩
    · rw [e1, e2]
      obtain ⟨k, rfl⟩ : ∃ k, m = k + 1 := ⟨m - 1, by omega⟩
      exact br_t rfl (hJ b hs e3 hm hl)
    · refine ih z' b' y.1 (fun e => absurd (e1.symm.trans e) (by decide)) (fun c j h => y.2.1 c j (hm c j h)) (fun c hc => (y.2.2.1 c hc).trans (hl c hc)) ?_ m (by omega)
      have h1 := gx_bf_lt y.2.1 hc1 hj h0 h1
      have h2 := gs_cn_le (gx_bf b') (704 * 32)
      omega
/-- what was found at a place is written down -/
theorem g1_60 (C : gx_C g f_present f_n a_kindOf a_lengthOf a_symbolOf a_word) {q k s : Nat} (hq : q ≤ gs_N g) (hs : s ≤ gs_N g) (hk : k < 5) {post : SX → Prop} {J31 : Int32 → Int32 → Int32 → Int32 → Int32 → Int32 → Int32 → (Nat → Int32) → (Nat → Int32) → (Nat → Int32) → (Nat → Int32) → (Nat → Int32) → (Nat → Int32) → (Nat → Int32) → (Nat → Int32) → (Nat → Int32) → (Nat → Int32) → (Nat → Int32) → (Nat → Int32) → (Nat → Int32) → (Nat → Int32) → (Nat → Int32) → (Nat → Int32) → (Nat → Int32) → (Nat → Int32) → (Nat → Int32) → (Nat → Int32) → (Nat → Int32) → Prop}
    (hJ : ∀ a, (∀ c j, j < 32 → (bt (a c) j = true ↔ bt (a_made c) j = true ∨ (c = k * 11 + s ∧ j = q ∧ ∃ r, r < 16 ∧ gs_H g r = true ∧ gs_K g r = k ∧ g1_B a_begun q (4 * r + gs_L g r) s))) → J31 (nI (q + 1)) f_present f_n f_keptLength f_pairs f_first f_waiting a_kindOf a_lengthOf a_symbolOf a_word a_kept a a_other a_byLength a_above a_firstHalf a_secondHalf a_wholeOf a_begun a_fact a_open a_waitWhat a_waitFrom a_waitTo a_callers a_back a_least) :
    ∃ n, wX_goForwards_60 post J31 (nI k) (nI s) (nI q) f_present f_n f_keptLength f_pairs f_first f_waiting n 0 a_kindOf a_lengthOf a_symbolOf a_word a_kept a_made a_other a_byLength a_above a_firstHalf a_secondHalf a_wholeOf a_begun a_fact a_open a_waitWhat a_waitFrom a_waitTo a_callers a_back a_least := by
  have ok := C.1
  have hN := gs_N10 ok
  have hc : k * 11 + s < 55 := by omega
  refine gl_ex (fun n r a => wX_goForwards_60 post J31 (nI k) (nI s) (nI q) f_present f_n f_keptLength f_pairs f_first f_waiting n (nI r) a_kindOf a_lengthOf a_symbolOf a_word a_kept a a_other a_byLength a_above a_firstHalf a_secondHalf a_wholeOf a_begun a_fact a_open a_waitWhat a_waitFrom a_waitTo a_callers a_back a_least)
    (fun r a => ∀ c j, j < 32 → (bt (a c) j = true ↔ bt (a_made c) j = true ∨ (c = k * 11 + s ∧ j = q ∧ ∃ r', r' < r ∧ gs_H g r' = true ∧ gs_K g r' = k ∧ g1_B a_begun q (4 * r' + gs_L g r') s))) 16 0 a_made (by omega) ?_ ?_ ?_
  · intro c j hj
    refine ⟨Or.inl, ?_⟩
    rintro (h | ⟨_, _, r', h, _⟩)
    · exact h
    · omega
  · intro n a y
    exact br_t (nI_le (a := 16) (by omega) (by omega)) (nm_r (nI_1 q) (hJ a y))
  · intro n r a hr y go
    have hK := gs_K5 ok hr
    have hL := gs_L3 ok hr
    have j121 : ∀ w, gs_tf (gs_H g r = true ∧ gs_K g r = k ∧ g1_B a_begun q (4 * r + gs_L g r) s) w → wX_goForwards_121 post J31 (wX_goForwards_60 post J31 (nI k) (nI s) (nI q) f_present f_n f_keptLength f_pairs f_first f_waiting n) (nI k) (nI s) (nI q) (nI r) w f_present f_n f_keptLength f_pairs f_first f_waiting a_kindOf a_lengthOf a_symbolOf a_word a_kept a a_other a_byLength a_above a_firstHalf a_secondHalf a_wholeOf a_begun a_fact a_open a_waitWhat a_waitFrom a_waitTo a_callers a_back a_least := by
      intro w hw
      refine And.intro (by rw [ix_11]; exact vp_in_nI hc (by decide)) (gs_tf_br hw (fun no => And.intro (by rw [ix_11]; exact vp_in_nI hc (by decide)) ?_) (fun yes => And.intro (by rw [ix_11]; exact vp_in_nI hc (by decide)) ?_))
      · rw [ix_11, nI_clamp (by omega)]
        refine nm_r (gb_upd_id (gb_or0 _)) (nm_r (nI_1 r) (go a (fun c j hj => (y c j hj).trans (or_congr Iff.rfl ⟨?_, ?_⟩))))
        · rintro ⟨e1, e2, r', h1, h2⟩
          exact ⟨e1, e2, r', by omega, h2⟩
        · rintro ⟨e1, e2, r', h1, h2⟩
          by_cases e : r' = r
          · rw [e] at h2; exact absurd h2 no
          · exact ⟨e1, e2, r', by omega, h2⟩
      · rw [ix_11, nI_clamp (by omega)]
        refine nm_e (nm_r (nI_1 r) (go _ (fun c j hj => (gx_bup _ _).trans ?_)))
        rw [y c j hj, gb_one (by omega) hj, decide_eq_true_eq]
        constructor
        · rintro ((h | ⟨e1, e2, r', h1, h2⟩) | ⟨e1, e2⟩)
          · exact Or.inl h
          · exact Or.inr ⟨e1, e2, r', by omega, h2⟩
          · exact Or.inr ⟨e1, e2, r, by omega, yes⟩
        · rintro (h | ⟨e1, e2, _⟩)
          · exact Or.inl (Or.inl h)
          · exact Or.inr ⟨e1, e2⟩
    refine br_f (nI_ge (b := 16) (by omega) (by omega)) (gx_has C hr (fun c => br_t rfl (j121 0 (gs_tf0 (fun d => by have := d.1; rw [c] at this; exact absurd this (by decide))))) (fun c => br_f gb_10 (And.intro (vp_in_nI hr (by decide)) ?_)))
    rw [nI_clamp (by omega), C.2.2.2.1 _ hr]
    refine pk_eq (gs_K g r) k (fun e => And.intro (vp_in_nI hr (by decide)) ?_) (fun e => j121 0 (gs_tf0 (fun d => e d.2.1)))
    have ei : nI q * 64 + 4 * nI r + a_lengthOf r = nI (q * 64 + (4 * r + gs_L g r)) := by
      rw [C.2.2.2.2.1 _ hr, ix_m4, ix_64, nI_add]
      exact congrArg nI (by omega)
    rw [ei, nI_clamp (by omega)]
    refine And.intro (vp_in_nI (by omega) (by decide)) (gb_br s (fun c2 => j121 0 (gs_tf0 (fun d => ?_))) (fun c2 => j121 1 (gs_tf1 ⟨c, e, by omega, by omega, by omega, c2⟩)))
    have := d.2.2.2.2.2
    rw [c2] at this
    exact absurd this (by decide)
end
end
section
/-! engine 1: goForwards, solveForwards -/
section
variable {g : gs_G} {f_present f_n f_keptLength f_pairs f_first f_waiting : Int32} {a_kindOf a_lengthOf a_symbolOf a_word a_kept a_made a_other a_byLength a_above a_firstHalf a_secondHalf a_wholeOf a_begun a_fact a_open a_waitWhat a_waitFrom a_waitTo a_callers a_back a_least : Nat → Int32}
theorem g1_31 (C : gx_C g f_present f_n a_kindOf a_lengthOf a_symbolOf a_word) {k s : Nat} (hk : k < 5) (hs : s ≤ gs_N g) {post : SX → Prop} (hsn : g1_snd g a_begun) (hlow : ∀ c, c < s * 64 → a_begun c = 0)
    (hst : ∀ r, r < 16 → gs_H g r = true → gs_K g r = k → g1_B a_begun s (4 * r) s)
    (h : ∀ b a, (∀ c j, j < 32 → (bt (a c) j = true ↔ bt (a_made c) j = true ∨ (c = k * 11 + s ∧ gs_Der g k s j))) → post (f_present, f_n, f_keptLength, f_pairs, f_first, f_waiting, a_kindOf, a_lengthOf, a_symbolOf, a_word, a_kept, a, a_other, a_byLength, a_above, a_firstHalf, a_secondHalf, a_wholeOf, b, a_fact, a_open, a_waitWhat, a_waitFrom, a_waitTo, a_callers, a_back, a_least)) :
    ∃ n, wX_goForwards_31 post (nI k) (nI s) n (nI s) f_present f_n f_keptLength f_pairs f_first f_waiting a_kindOf a_lengthOf a_symbolOf a_word a_kept a_made a_other a_byLength a_above a_firstHalf a_secondHalf a_wholeOf a_begun a_fact a_open a_waitWhat a_waitFrom a_waitTo a_callers a_back a_least := by
  have ok := C.1
  have hN := gs_N10 ok
  have eN := C.2.1
  subst eN
  refine gl_ex (fun n q (t : (Nat → Int32) × (Nat → Int32)) => wX_goForwards_31 post (nI k) (nI s) n (nI q) f_present (nI (gs_N g)) f_keptLength f_pairs f_first f_waiting a_kindOf a_lengthOf a_symbolOf a_word a_kept t.2 a_other a_byLength a_above a_firstHalf a_secondHalf a_wholeOf t.1 a_fact a_open a_waitWhat a_waitFrom a_waitTo a_callers a_back a_least)
    (fun q t => g1_snd g t.1 ∧ (∀ p st, p < q → st < 64 → g1_cl g t.1 p st) ∧ (∀ r, r < 16 → gs_H g r = true → gs_K g r = k → g1_B t.1 s (4 * r) s) ∧ (∀ c j, j < 32 → (bt (t.2 c) j = true ↔ bt (a_made c) j = true ∨ (c = k * 11 + s ∧ j < q ∧ gs_Der g k s j))))
    (gs_N g + 1) s (a_begun, a_made) (by omega) ⟨hsn, fun p st hp hst f hf hb => ?_, hst, fun c j hj => ⟨Or.inl, ?_⟩⟩ ?_ ?_
  · have hb' : bt (a_begun (p * 64 + st)) f = true := hb
    rw [hlow _ (by omega), b_0] at hb'
    exact absurd hb' (by decide)
  · rintro (h | ⟨_, h1, h2⟩)
    · exact h
    · have := (gs_Der_rng h2).1
      omega
  · rintro n ⟨b, a⟩ ⟨_, _, _, y⟩
    refine br_t (nI_lt (by omega) (by omega)) (h b a (fun c j hj => (y c j hj).trans (or_congr Iff.rfl ⟨?_, ?_⟩)))
    · rintro ⟨e1, e2, e3⟩; exact ⟨e1, e3⟩
    · rintro ⟨e1, e3⟩
      have := (gs_Der_rng e3).2
      exact ⟨e1, by omega, e3⟩
  · rintro n q ⟨b, a⟩ hq ⟨y1, y2, y3, y4⟩ go
    refine br_f (nI_nlt (by omega) (by omega)) ⟨22531, g1_42 (f_n := nI (gs_N g)) (a_begun := b) (a_made := a) C (by omega) (fun b' hs' hc' hm' hl' => ?_) 22529 1 b y1 (fun e => absurd e (by decide)) (fun _ _ h => h) (fun _ _ => rfl) (by omega) _ (by omega)⟩
    have cl : ∀ p st, p ≤ q → st < 64 → g1_cl g b' p st := by
      intro p st hp hst
      by_cases e : p = q
      · rw [e]; exact hc' st hst
      · exact g1_cl_keep hN (by omega) y1 hst hm' hl' (by omega) (y2 p st (by omega) hst)
    have st' : ∀ r, r < 16 → gs_H g r = true → gs_K g r = k → g1_B b' s (4 * r) s := fun r hr hh hkk => g1_B_mono hm' (y3 r hr hh hkk)
    refine g1_60 (f_n := nI (gs_N g)) (a_begun := b') (a_made := a) C (by omega) hs hk (fun a' ha' => go (b', a') ⟨hs', fun p st hp => cl p st (by omega), st', fun c j hj => ?_⟩)
    have hf := g1_found ok hs' cl (show q ≤ gs_N g by omega) st'
    rw [ha' c j hj, y4 c j hj, hf]
    constructor
    · rintro ((h | ⟨e1, e2, e3⟩) | ⟨e1, e2, e3⟩)
      · exact Or.inl h
      · exact Or.inr ⟨e1, by omega, e3⟩
      · rw [e2]; exact Or.inr ⟨e1, by omega, e3⟩
    · rintro (h | ⟨e1, e2, e3⟩)
      · exact Or.inl (Or.inl h)
      · by_cases e : j = q
        · rw [e] at e3 ⊢; exact Or.inr ⟨e1, rfl, e3⟩
        · exact Or.inl (Or.inr ⟨e1, by omega, e3⟩)
theorem g1_go (C : gx_C g f_present f_n a_kindOf a_lengthOf a_symbolOf a_word) {k s : Nat} (hk : k < 5) (hs : s ≤ gs_N g) {post : SX → Prop}
    (h : ∀ b a, (∀ c j, j < 32 → (bt (a c) j = true ↔ bt (a_made c) j = true ∨ (c = k * 11 + s ∧ gs_Der g k s j))) → post (f_present, f_n, f_keptLength, f_pairs, f_first, f_waiting, a_kindOf, a_lengthOf, a_symbolOf, a_word, a_kept, a, a_other, a_byLength, a_above, a_firstHalf, a_secondHalf, a_wholeOf, b, a_fact, a_open, a_waitWhat, a_waitFrom, a_waitTo, a_callers, a_back, a_least)) : wpX_goForwards post (f_present, f_n, f_keptLength, f_pairs, f_first, f_waiting, a_kindOf, a_lengthOf, a_symbolOf, a_word, a_kept, a_made, a_other, a_byLength, a_above, a_firstHalf, a_secondHalf, a_wholeOf, a_begun, a_fact, a_open, a_waitWhat, a_waitFrom, a_waitTo, a_callers, a_back, a_least) (nI k) (nI s) := by
  have ok := C.1
  have hN := gs_N10 ok
  refine gl_fill (fun n x a => wX_goForwards_2 post (nI k) (nI s) f_present f_n f_keptLength f_pairs f_first f_waiting n x a_kindOf a_lengthOf a_symbolOf a_word a_kept a_made a_other a_byLength a_above a_firstHalf a_secondHalf a_wholeOf a a_fact a_open a_waitWhat a_waitFrom a_waitTo a_callers a_back a_least) 704 (fun _ => 0) ?_ ?_ a_begun
  · intro n b hb
    have snd : g1_snd g b := by
      rintro p st f ⟨h1, h2, h3, h4⟩
      rw [hb _ (by omega), b_0] at h4
      exact absurd h4 (by decide)
    refine br_t (nI_le (a := 704) (by omega) (by omega)) (g1_expect (a_begun := b) C snd (Nat.le_refl s) hs hk (fun z b' y m => ?_))
    exact g1_31 (a_begun := b') C hk hs y.1 (fun c hc => (y.2.2.1 c hc).trans (hb c (by omega))) m h
  · intro n i a hi hh
    refine br_f (nI_ge (b := 704) (by omega) (by omega)) (And.intro (vp_in_nI hi (by decide)) ?_)
    rw [nI_clamp (by omega)]
    exact nm_e (nm_r (nI_1 i) hh)
theorem gx_eng1 (C : gx_C g f_present f_n a_kindOf a_lengthOf a_symbolOf a_word) {post : SX → Prop} (hp : ∀ b a, gx_T g a → post (f_present, f_n, f_keptLength, f_pairs, f_first, f_waiting, a_kindOf, a_lengthOf, a_symbolOf, a_word, a_kept, a, a_other, a_byLength, a_above, a_firstHalf, a_secondHalf, a_wholeOf, b, a_fact, a_open, a_waitWhat, a_waitFrom, a_waitTo, a_callers, a_back, a_least)) : wpX_solveForwards post (f_present, f_n, f_keptLength, f_pairs, f_first, f_waiting, a_kindOf, a_lengthOf, a_symbolOf, a_word, a_kept, a_made, a_other, a_byLength, a_above, a_firstHalf, a_secondHalf, a_wholeOf, a_begun, a_fact, a_open, a_waitWhat, a_waitFrom, a_waitTo, a_callers, a_back, a_least) := by
  have ok := C.1
  have hN := gs_N10 ok
  have eN := C.2.1
  subst eN
  refine gx_clear (fun a0 ha0 => ?_)
  refine gl_ex (fun n s (t : (Nat → Int32) × (Nat → Int32)) => wX_solveForwards_6 post n (nI s) f_present (nI (gs_N g)) f_keptLength f_pairs f_first f_waiting a_kindOf a_lengthOf a_symbolOf a_word a_kept t.2 a_other a_byLength a_above a_firstHalf a_secondHalf a_wholeOf t.1 a_fact a_open a_waitWhat a_waitFrom a_waitTo a_callers a_back a_least)
    (fun s t => ∀ c j, c < 55 → j < 32 → (bt (t.2 c) j = true ↔ ∃ k' s', k' < 5 ∧ s' < s ∧ c = k' * 11 + s' ∧ gs_Der g k' s' j)) (gs_N g + 1) 0 (a_begun, a0) (by omega) ?_ ?_ ?_
  · intro c j hc hj
    show bt (a0 c) j = true ↔ _
    rw [ha0 c hc, b_0]
    constructor
    · intro h; exact absurd h (by decide)
    · rintro ⟨k', s', _, h, _⟩; omega
  · rintro n ⟨b, a⟩ y
    refine br_t (nI_lt (by omega) (by omega)) (hp b a (fun k i j hk hi hj => (y _ j (by omega) hj).trans ⟨?_, ?_⟩))
    · rintro ⟨k', s', h1, h2, h3, h4⟩
      have e1 : k' = k := by omega
      have e2 : s' = i := by omega
      rw [← e1, ← e2]; exact h4
    · intro h; exact ⟨k, i, hk, by omega, rfl, h⟩
  · rintro n s ⟨b, a⟩ hs y go
    refine br_f (nI_nlt (by omega) (by omega)) ?_
    refine gl_ex (fun n' k (t : (Nat → Int32) × (Nat → Int32)) => wX_solveForwards_16 post (wX_solveForwards_6 post n) (nI s) n' (nI k) f_present (nI (gs_N g)) f_keptLength f_pairs f_first f_waiting a_kindOf a_lengthOf a_symbolOf a_word a_kept t.2 a_other a_byLength a_above a_firstHalf a_secondHalf a_wholeOf t.1 a_fact a_open a_waitWhat a_waitFrom a_waitTo a_callers a_back a_least)
      (fun k t => ∀ c j, c < 55 → j < 32 → (bt (t.2 c) j = true ↔ ∃ k' s', k' < 5 ∧ (s' < s ∨ (s' = s ∧ k' < k)) ∧ c = k' * 11 + s' ∧ gs_Der g k' s' j)) 5 0 (b, a) (by omega) ?_ ?_ ?_
    · intro c j hc hj
      refine (y c j hc hj).trans ⟨?_, ?_⟩
      · rintro ⟨k', s', h1, h2, h3⟩; exact ⟨k', s', h1, Or.inl h2, h3⟩
      · rintro ⟨k', s', h1, h2, h3⟩; exact ⟨k', s', h1, by omega, h3⟩
    · rintro n' ⟨b', a'⟩ y'
      refine br_t (nI_le (a := 5) (by omega) (by omega)) (nm_r (nI_1 s) (go (b', a') (fun c j hc hj => (y' c j hc hj).trans ⟨?_, ?_⟩)))
      · rintro ⟨k', s', h1, h2, h3⟩; exact ⟨k', s', h1, by omega, h3⟩
      · rintro ⟨k', s', h1, h2, h3⟩; exact ⟨k', s', h1, by omega, h3⟩
    · rintro n' k ⟨b', a'⟩ hk y' go'
      refine br_f (nI_ge (b := 5) (by omega) (by omega)) (g1_go (f_n := nI (gs_N g)) (a_begun := b') (a_made := a') C hk (by omega) (fun b2 a2 h2 => nm_r (nI_1 k) (go' (b2, a2) (fun c j hc hj => ?_))))
      rw [h2 c j hj, y' c j hc hj]
      constructor
      · rintro (⟨k', s', h1, h2, h3⟩ | ⟨h1, h2⟩)
        · exact ⟨k', s', h1, by omega, h3⟩
        · exact ⟨k, s, hk, by omega, h1, h2⟩
      · rintro ⟨k', s', h1, h2, h3, h4⟩
        by_cases e : s' = s ∧ k' = k
        · rw [e.1, e.2] at h3 h4; exact Or.inr ⟨h3, h4⟩
        · exact Or.inl ⟨k', s', h1, by omega, h3, h4⟩
end
end
section
/-! engine 0, without the program: wide symbols (8 + r: the last two of rule r) -/
def g0_Nu (g : gs_G) (s : Nat) : Prop := gs_Nul g s ∨ ∃ r, r < 16 ∧ gs_H g r = true ∧ gs_L g r = 3 ∧ s = 8 + r ∧ gs_Nul g (gs_S g r 1) ∧ gs_Nul g (gs_S g r 2)
def g0_W (g : gs_G) (s i j : Nat) : Prop := (s < 8 ∧ gs_cov g (gs_Der g) s i j) ∨
  ∃ r, r < 16 ∧ gs_H g r = true ∧ gs_L g r = 3 ∧ s = 8 + r ∧ ∃ m, gs_cov g (gs_Der g) (gs_S g r 1) i m ∧ gs_cov g (gs_Der g) (gs_S g r 2) m j
def g0_pp (g : gs_G) (p : Nat × Nat × Nat) : Prop := ∃ r, r < 16 ∧ gs_H g r = true ∧
  ((gs_L g r = 2 ∧ p = (gs_K g r, gs_S g r 0, gs_S g r 1)) ∨ (gs_L g r = 3 ∧ p = (gs_K g r, gs_S g r 0, 8 + r)) ∨ (gs_L g r = 3 ∧ p = (8 + r, gs_S g r 1, gs_S g r 2)))
def g0_T (g : gs_G) (s t : Nat) : Prop := ∀ i j, i < j → g0_W g s i j → g0_W g t i j
theorem g0_crng {g : gs_G} {s i j : Nat} (c : gs_cov g (gs_Der g) s i j) : i ≤ j ∧ j ≤ gs_N g := gs_cov_rng (fun _ _ _ c => gs_Der_rng c) c
theorem g0_W_rng {g : gs_G} {s i j : Nat} (h : g0_W g s i j) : i ≤ j ∧ j ≤ gs_N g := by
  rcases h with ⟨_, c⟩ | ⟨r, _, _, _, _, m, c1, c2⟩
  · exact g0_crng c
  · have h1 := g0_crng c1
    have h2 := g0_crng c2
    omega
theorem g0_W8 {g : gs_G} {s i j : Nat} (hs : s < 8) (h : g0_W g s i j) : gs_cov g (gs_Der g) s i j := by
  rcases h with ⟨_, c⟩ | ⟨r, _, _, _, e, _⟩
  · exact c
  · omega
theorem g0_Nu8 {g : gs_G} {s : Nat} (hs : s < 8) (h : g0_Nu g s) : gs_Nul g s := by
  rcases h with c | ⟨r, _, _, _, e, _⟩
  · exact c
  · omega
theorem g0_Wr {g : gs_G} {r i j : Nat} (h : g0_W g (8 + r) i j) : ∃ m, gs_cov g (gs_Der g) (gs_S g r 1) i m ∧ gs_cov g (gs_Der g) (gs_S g r 2) m j := by
  rcases h with ⟨h, _⟩ | ⟨r', _, _, _, e, h⟩
  · omega
  · have e1 : r' = r := by omega
    rw [e1] at h
    exact h
theorem g0_Nur {g : gs_G} (ok : gs_ok g) {r : Nat} (h : g0_Nu g (8 + r)) : gs_Nul g (gs_S g r 1) ∧ gs_Nul g (gs_S g r 2) := by
  rcases h with h | ⟨r', _, _, _, e, h⟩
  · have := gs_Nul_k ok h
    omega
  · have e1 : r' = r := by omega
    rw [e1] at h
    exact h
theorem g0_Nul_cov {g : gs_G} (ok : gs_ok g) {s i : Nat} (h : gs_Nul g s) (hi : i ≤ gs_N g) : gs_cov g (gs_Der g) s i i := Or.inl ⟨gs_Nul_k ok h, gs_Nul_Der h i hi⟩
theorem g0_Nu_W {g : gs_G} (ok : gs_ok g) {s i : Nat} (h : g0_Nu g s) (hi : i ≤ gs_N g) : g0_W g s i i := by
  rcases h with h | ⟨r, hr, hh, hl, e, h1, h2⟩
  · exact Or.inl ⟨by have := gs_Nul_k ok h; omega, g0_Nul_cov ok h hi⟩
  · exact Or.inr ⟨r, hr, hh, hl, e, i, g0_Nul_cov ok h1 hi, g0_Nul_cov ok h2 hi⟩
theorem g0_pp_b {g : gs_G} (ok : gs_ok g) {w a b : Nat} (h : g0_pp g (w, a, b)) : w < 24 ∧ a < 24 ∧ b < 24 := by
  obtain ⟨r, hr, _, h⟩ := h
  have hK := gs_K5 ok hr
  have h0 := gs_S8 ok hr (show 0 < 3 by omega)
  have h1 := gs_S8 ok hr (show 1 < 3 by omega)
  have h2 := gs_S8 ok hr (show 2 < 3 by omega)
  rcases h with ⟨_, e⟩ | ⟨_, e⟩ | ⟨_, e⟩
  · obtain ⟨e1, e2, e3⟩ := g2_pair e
    omega
  · obtain ⟨e1, e2, e3⟩ := g2_pair e
    omega
  · obtain ⟨e1, e2, e3⟩ := g2_pair e
    omega
theorem g0_pp_W {g : gs_G} (ok : gs_ok g) {w a b i m j : Nat} (h : g0_pp g (w, a, b)) (ha : g0_W g a i m) (hb : g0_W g b m j) : g0_W g w i j := by
  have r1 := g0_W_rng ha
  have r2 := g0_W_rng hb
  obtain ⟨r, hr, hh, h⟩ := h
  have hK := gs_K5 ok hr
  have h0 := gs_S8 ok hr (show 0 < 3 by omega)
  have h1 := gs_S8 ok hr (show 1 < 3 by omega)
  have h2 := gs_S8 ok hr (show 2 < 3 by omega)
  rcases h with ⟨l, e⟩ | ⟨l, e⟩ | ⟨l, e⟩
  · obtain ⟨e1, e2, e3⟩ := g2_pair e
    rw [e2] at ha
    rw [e3] at hb
    rw [e1]
    refine Or.inl ⟨by omega, Or.inl ⟨hK, gs_Der_cl g r hr hh i j (by omega) ?_⟩⟩
    rw [l]
    exact ⟨m, ⟨i, rfl, g0_W8 h0 ha⟩, g0_W8 h1 hb⟩
  · obtain ⟨e1, e2, e3⟩ := g2_pair e
    rw [e2] at ha
    rw [e3] at hb
    rw [e1]
    obtain ⟨m2, c1, c2⟩ := g0_Wr hb
    refine Or.inl ⟨by omega, Or.inl ⟨hK, gs_Der_cl g r hr hh i j (by omega) ?_⟩⟩
    rw [l]
    exact ⟨m2, ⟨m, ⟨i, rfl, g0_W8 h0 ha⟩, c1⟩, c2⟩
  · obtain ⟨e1, e2, e3⟩ := g2_pair e
    rw [e2] at ha
    rw [e3] at hb
    exact Or.inr ⟨r, hr, hh, l, e1, m, g0_W8 h1 ha, g0_W8 h2 hb⟩
theorem g0_pp_Nu {g : gs_G} (ok : gs_ok g) {w a b : Nat} (h : g0_pp g (w, a, b)) (ha : g0_Nu g a) (hb : g0_Nu g b) : g0_Nu g w := by
  obtain ⟨r, hr, hh, h⟩ := h
  have h0 := gs_S8 ok hr (show 0 < 3 by omega)
  have h1 := gs_S8 ok hr (show 1 < 3 by omega)
  have h2 := gs_S8 ok hr (show 2 < 3 by omega)
  rcases h with ⟨l, e⟩ | ⟨l, e⟩ | ⟨l, e⟩
  · obtain ⟨e1, e2, e3⟩ := g2_pair e
    rw [e2] at ha
    rw [e3] at hb
    rw [e1]
    refine Or.inl (gs_Nul_cl g r hr hh (fun d hd => ?_))
    have n0 := g0_Nu8 h0 ha
    have n1 := g0_Nu8 h1 hb
    have hd' : d = 0 ∨ d = 1 := by omega
    rcases hd' with hd' | hd' <;> rw [hd']
    · exact ⟨gs_Nul_k ok n0, n0⟩
    · exact ⟨gs_Nul_k ok n1, n1⟩
  · obtain ⟨e1, e2, e3⟩ := g2_pair e
    rw [e2] at ha
    rw [e3] at hb
    rw [e1]
    refine Or.inl (gs_Nul_cl g r hr hh (fun d hd => ?_))
    have n0 := g0_Nu8 h0 ha
    obtain ⟨n1, n2⟩ := g0_Nur ok hb
    have hd' : d = 0 ∨ d = 1 ∨ d = 2 := by omega
    rcases hd' with hd' | hd' | hd' <;> rw [hd']
    · exact ⟨gs_Nul_k ok n0, n0⟩
    · exact ⟨gs_Nul_k ok n1, n1⟩
    · exact ⟨gs_Nul_k ok n2, n2⟩
  · obtain ⟨e1, e2, e3⟩ := g2_pair e
    rw [e2] at ha
    rw [e3] at hb
    exact Or.inr ⟨r, hr, hh, l, e1, g0_Nu8 h1 ha, g0_Nu8 h2 hb⟩
/-- by the set X for the stretch from i to j, and by what is known for all others -/
def g0_Q (g : gs_G) (X : Nat → Prop) (i j s a b : Nat) : Prop :=
  (a = b ∧ a ≤ gs_N g ∧ g0_Nu g s) ∨ (a < b ∧ ¬ (a = i ∧ b = j) ∧ g0_W g s a b) ∨ (a = i ∧ b = j ∧ X s)
theorem g0_Q_W {g : gs_G} (ok : gs_ok g) {X : Nat → Prop} {i j : Nat} (A1 : ∀ s, s < 24 → X s → g0_W g s i j) {s a b : Nat} (hs : s < 24) (h : g0_Q g X i j s a b) : g0_W g s a b := by
  rcases h with ⟨e, hi, n⟩ | ⟨_, _, w⟩ | ⟨e1, e2, x⟩
  · rw [← e]; exact g0_Nu_W ok n hi
  · exact w
  · rw [e1, e2]; exact A1 s hs x
theorem g0_Q_pp {g : gs_G} (ok : gs_ok g) {X : Nat → Prop} {i j : Nat} (hij : i < j) (A1 : ∀ s, s < 24 → X s → g0_W g s i j)
    (A3 : ∀ w a b, g0_pp g (w, a, b) → ∀ m, i < m → m < j → g0_W g a i m → g0_W g b m j → X w)
    (A4 : ∀ w a b, g0_pp g (w, a, b) → (g0_Nu g a → X b → X w) ∧ (g0_Nu g b → X a → X w))
    {w a b p m q : Nat} (h : g0_pp g (w, a, b)) (ha : g0_Q g X i j a p m) (hb : g0_Q g X i j b m q) : g0_Q g X i j w p q := by
  have bd := g0_pp_b ok h
  have wa := g0_Q_W ok A1 bd.2.1 ha
  have wb := g0_Q_W ok A1 bd.2.2 hb
  have r1 := g0_W_rng wa
  have r2 := g0_W_rng wb
  by_cases c : p = i ∧ q = j
  · refine Or.inr (Or.inr ⟨c.1, c.2, ?_⟩)
    rw [c.1] at ha wa
    rw [c.2] at hb wb
    by_cases m1 : m = i
    · -- the first part is empty
      rcases ha with ⟨_, _, n⟩ | ⟨h1, _⟩ | ⟨_, h2, _⟩
      · rcases hb with ⟨h1, _⟩ | ⟨_, h2, _⟩ | ⟨_, _, x⟩
        · omega
        · omega
        · exact (A4 w a b h).1 n x
      · omega
      · omega
    · by_cases m2 : m = j
      · rcases hb with ⟨_, _, n⟩ | ⟨h1, _⟩ | ⟨h2, _, _⟩
        · rcases ha with ⟨h1, _⟩ | ⟨_, h2, _⟩ | ⟨_, _, x⟩
          · omega
          · omega
          · exact (A4 w a b h).2 n x
        · omega
        · omega
      · exact A3 w a b h m (by omega) (by omega) wa wb
  · by_cases e : p = q
    · refine Or.inl ⟨e, by omega, ?_⟩
      have e1 : m = p := by omega
      rcases ha with ⟨_, _, n⟩ | ⟨h1, _⟩ | ⟨h1, h2, _⟩
      · rcases hb with ⟨_, _, n2⟩ | ⟨h1, _⟩ | ⟨h1, h2, _⟩
        · exact g0_pp_Nu ok h n n2
        · omega
        · omega
      · omega
      · omega
    · exact Or.inr (Or.inl ⟨by omega, c, g0_pp_W ok h wa wb⟩)
theorem g0_complete {g : gs_G} (ok : gs_ok g) {X : Nat → Prop} {i j : Nat} (hij : i < j) (A1 : ∀ s, s < 24 → X s → g0_W g s i j)
    (A2 : j = i + 1 → X (5 + gs_W g i))
    (A3 : ∀ w a b, g0_pp g (w, a, b) → ∀ m, i < m → m < j → g0_W g a i m → g0_W g b m j → X w)
    (A4 : ∀ w a b, g0_pp g (w, a, b) → (g0_Nu g a → X b → X w) ∧ (g0_Nu g b → X a → X w))
    (A5 : ∀ r, r < 16 → gs_H g r = true → gs_L g r = 1 → X (gs_S g r 0) → X (gs_K g r)) {s : Nat} (h : g0_W g s i j) : X s := by
  -- symbols of rules
  have low : ∀ s a b, s < 8 → gs_cov g (fun k a b => g0_Q g X i j k a b) s a b → g0_Q g X i j s a b := by
    rintro s a b hs (⟨_, c⟩ | ⟨h5, e, h1, h2⟩)
    · exact c
    · by_cases c : a = i ∧ b = j
      · refine Or.inr (Or.inr ⟨c.1, c.2, ?_⟩)
        have := A2 (by omega)
        rw [← c.1, show 5 + gs_W g a = s by omega] at this
        exact this
      · exact Or.inr (Or.inl ⟨by omega, c, Or.inl ⟨hs, Or.inr ⟨h5, e, h1, h2⟩⟩⟩)
  have key : gs_cl g (fun k a b => g0_Q g X i j k a b) := by
    intro r hr hh a b ha hp
    have hK := gs_K5 ok hr
    have hL := gs_L3 ok hr
    have h0 := gs_S8 ok hr (show 0 < 3 by omega)
    have h1 := gs_S8 ok hr (show 1 < 3 by omega)
    have h2 := gs_S8 ok hr (show 2 < 3 by omega)
    have hl : gs_L g r = 0 ∨ gs_L g r = 1 ∨ gs_L g r = 2 ∨ gs_L g r = 3 := by omega
    show g0_Q g X i j (gs_K g r) a b
    rcases hl with l | l | l | l
    · rw [l] at hp
      have e : b = a := hp
      refine Or.inl ⟨e.symm, ha, Or.inl (gs_Nul_cl g r hr hh (fun d hd => ?_))⟩
      omega
    · rw [l] at hp
      obtain ⟨a', e, c⟩ := hp
      have e' : a' = a := e
      rw [e'] at c
      rcases low _ a b h0 c with ⟨e, hi, n⟩ | ⟨hab, hn, w⟩ | ⟨e1, e2, x⟩
      · refine Or.inl ⟨e, hi, Or.inl (gs_Nul_cl g r hr hh (fun d hd => ?_))⟩
        have n0 := g0_Nu8 h0 n
        rw [show d = 0 by omega]
        exact ⟨gs_Nul_k ok n0, n0⟩
      · refine Or.inr (Or.inl ⟨hab, hn, Or.inl ⟨by omega, Or.inl ⟨hK, gs_Der_cl g r hr hh a b ha ?_⟩⟩⟩)
        rw [l]
        exact ⟨a, rfl, g0_W8 h0 w⟩
      · exact Or.inr (Or.inr ⟨e1, e2, A5 r hr hh l x⟩)
    · rw [l] at hp
      obtain ⟨m, ⟨a', e, c1⟩, c2⟩ := hp
      have e' : a' = a := e
      rw [e'] at c1
      exact g0_Q_pp ok hij A1 A3 A4 ⟨r, hr, hh, Or.inl ⟨l, rfl⟩⟩ (low _ _ _ h0 c1) (low _ _ _ h1 c2)
    · rw [l] at hp
      obtain ⟨m2, ⟨m, ⟨a', e, c1⟩, c2⟩, c3⟩ := hp
      have e' : a' = a := e
      rw [e'] at c1
      exact g0_Q_pp ok hij A1 A3 A4 ⟨r, hr, hh, Or.inr (Or.inl ⟨l, rfl⟩)⟩ (low _ _ _ h0 c1) (g0_Q_pp ok hij A1 A3 A4 ⟨r, hr, hh, Or.inr (Or.inr ⟨l, rfl⟩)⟩ (low _ _ _ h1 c2) (low _ _ _ h2 c3))
  have fin : ∀ s, g0_Q g X i j s i j → X s := by
    rintro s (⟨e, _⟩ | ⟨_, hn, _⟩ | ⟨_, _, x⟩)
    · omega
    · exact absurd ⟨rfl, rfl⟩ hn
    · exact x
  have lift : ∀ s a b, s < 8 → gs_cov g (gs_Der g) s a b → g0_Q g X i j s a b := fun s a b hs c => low s a b hs (gs_cov_mono (fun k a b d => d _ key) c)
  rcases h with ⟨hs, c⟩ | ⟨r, hr, hh, l, e, m, c1, c2⟩
  · exact fin s (lift s i j hs c)
  · rw [e]
    exact fin _ (g0_Q_pp ok hij A1 A3 A4 ⟨r, hr, hh, Or.inr (Or.inr ⟨l, rfl⟩)⟩ (lift _ _ _ (gs_S8 ok hr (by decide)) c1) (lift _ _ _ (gs_S8 ok hr (by decide)) c2))
end
section
/-! engine 0: cutRules -/
abbrev g0_s : Type := Int32 × (Nat → Int32) × (Nat → Int32) × (Nat → Int32) × (Nat → Int32) × Nat × (Nat → Nat × Nat × Nat)
def g0_np (s : g0_s) : Nat := s.2.2.2.2.2.1
def g0_pr (s : g0_s) : Nat → Nat × Nat × Nat := s.2.2.2.2.2.2
def g0_pm (s : g0_s) (q : Nat × Nat × Nat) : Prop := ∃ p, p < g0_np s ∧ g0_pr s p = q
def g0_pq (g : gs_G) (r : Nat) (p : Nat × Nat × Nat) : Prop :=
  (gs_L g r = 2 ∧ p = (gs_K g r, gs_S g r 0, gs_S g r 1)) ∨ (gs_L g r = 3 ∧ p = (gs_K g r, gs_S g r 0, 8 + r)) ∨ (gs_L g r = 3 ∧ p = (8 + r, gs_S g r 1, gs_S g r 2))
def g0_PC (g : gs_G) (s : g0_s) : Prop := s.1 = nI (g0_np s) ∧
  ∀ p, p < g0_np s → g0_pp g (g0_pr s p) ∧ s.2.2.2.2.1 p = nI (g0_pr s p).1 ∧ s.2.2.1 p = nI (g0_pr s p).2.1 ∧ s.2.2.2.1 p = nI (g0_pr s p).2.2
def g0_put (s : g0_s) (q : Nat × Nat × Nat) : g0_s :=
  (nI (g0_np s + 1), s.2.1, upd s.2.2.1 (g0_np s) (nI q.2.1), upd s.2.2.2.1 (g0_np s) (nI q.2.2), upd s.2.2.2.2.1 (g0_np s) (nI q.1), g0_np s + 1, fun p => if p = g0_np s then q else g0_pr s p)
theorem g0_put_pm {s : g0_s} {q q' : Nat × Nat × Nat} : g0_pm (g0_put s q) q' ↔ g0_pm s q' ∨ q' = q := by
  constructor
  · rintro ⟨t, ht, e⟩
    have ht' : t < g0_np s + 1 := ht
    have e' : (if t = g0_np s then q else g0_pr s t) = q' := e
    by_cases e1 : t = g0_np s
    · rw [if_pos e1] at e'
      exact Or.inr e'.symm
    · rw [if_neg e1] at e'
      exact Or.inl ⟨t, by omega, e'⟩
  · rintro (⟨t, ht, e⟩ | h)
    · exact ⟨t, Nat.lt_succ_of_lt ht, (if_neg (by omega)).trans e⟩
    · exact ⟨g0_np s, Nat.lt_succ_self _, (if_pos rfl).trans h.symm⟩
theorem g0_put_PC {g : gs_G} {s : g0_s} {q : Nat × Nat × Nat} (h : g0_PC g s) (hq : g0_pp g q) : g0_PC g (g0_put s q) := by
  refine ⟨rfl, fun p hp => ?_⟩
  have hp' : p < g0_np s + 1 := hp
  show g0_pp g (if p = g0_np s then q else g0_pr s p) ∧ upd _ _ _ p = nI (if p = g0_np s then q else g0_pr s p).1 ∧ upd _ _ _ p = nI (if p = g0_np s then q else g0_pr s p).2.1 ∧ upd _ _ _ p = nI (if p = g0_np s then q else g0_pr s p).2.2
  by_cases e : p = g0_np s
  · rw [if_pos e, e]
    exact ⟨hq, pk_us, pk_us, pk_us⟩
  · rw [if_neg e]
    have h1 := h.2 p (by omega)
    exact ⟨h1.1, (pk_un e).trans h1.2.1, (pk_un e).trans h1.2.2.1, (pk_un e).trans h1.2.2.2⟩
def g0_AS (g : gs_G) (ab : Nat → Int32) : Prop := ∀ s t, s < 24 → t < 24 → bt (ab s) t = true → g0_T g s t
section
variable {g : gs_G} {f_present f_n f_keptLength f_pairs f_first f_waiting : Int32} {a_kindOf a_lengthOf a_symbolOf a_word a_kept a_made a_other a_byLength a_above a_firstHalf a_secondHalf a_wholeOf a_begun a_fact a_open a_waitWhat a_waitFrom a_waitTo a_callers a_back a_least : Nat → Int32}
theorem g0_addPair {s : g0_s} (hs : s.1 = nI (g0_np s)) (hn : g0_np s < 32) {w a b : Nat} (hw : w < 24) (ha : a < 24) (hb : b < 24) {post : SX → Prop} (h : post (f_present, f_n, f_keptLength, ((g0_put s (w, a, b)).1), f_first, f_waiting, a_kindOf, a_lengthOf, a_symbolOf, a_word, a_kept, a_made, a_other, a_byLength, ((g0_put s (w, a, b)).2.1), ((g0_put s (w, a, b)).2.2.1), ((g0_put s (w, a, b)).2.2.2.1), ((g0_put s (w, a, b)).2.2.2.2.1), a_begun, a_fact, a_open, a_waitWhat, a_waitFrom, a_waitTo, a_callers, a_back, a_least)) : wpX_addPair post (f_present, f_n, f_keptLength, s.1, f_first, f_waiting, a_kindOf, a_lengthOf, a_symbolOf, a_word, a_kept, a_made, a_other, a_byLength, s.2.1, s.2.2.1, s.2.2.2.1, s.2.2.2.2.1, a_begun, a_fact, a_open, a_waitWhat, a_waitFrom, a_waitTo, a_callers, a_back, a_least) (nI w) (nI a) (nI b) := by
  have hin : vp_in s.1 32 := by rw [hs]; exact vp_in_nI hn (by decide)
  have hc : s.1.toNatClampNeg = g0_np s := by rw [hs]; exact nI_clamp (by omega)
  refine And.intro hin ?_
  rw [hc, gb_nb (by omega)]
  refine nm_e (And.intro hin ?_)
  rw [gb_nb (by omega)]
  refine nm_e (And.intro hin ?_)
  rw [gb_nb (by omega)]
  exact nm_e (nm_r (e' := nI (g0_np s + 1)) (by rw [hs, nI_1]) h)
theorem g0_133 (C : gx_C g f_present f_n a_kindOf a_lengthOf a_symbolOf a_word) {post : SX → Prop} {J35 : Int32 → Int32 → Int32 → Int32 → Int32 → Int32 → Int32 → Int32 → (Nat → Int32) → (Nat → Int32) → (Nat → Int32) → (Nat → Int32) → (Nat → Int32) → (Nat → Int32) → (Nat → Int32) → (Nat → Int32) → (Nat → Int32) → (Nat → Int32) → (Nat → Int32) → (Nat → Int32) → (Nat → Int32) → (Nat → Int32) → (Nat → Int32) → (Nat → Int32) → (Nat → Int32) → (Nat → Int32) → (Nat → Int32) → (Nat → Int32) → (Nat → Int32) → Prop} {x1 : Int32} {r : Nat} (hr : r < 16) {s : g0_s} (P : g0_PC g s) (hn : g0_np s ≤ 2 * r)
    (hskip : (gs_H g r = true → gs_L g r ≠ 3) → J35 x1 (nI (r + 1)) f_present f_n f_keptLength s.1 f_first f_waiting a_kindOf a_lengthOf a_symbolOf a_word a_kept a_made a_other a_byLength s.2.1 s.2.2.1 s.2.2.2.1 s.2.2.2.2.1 a_begun a_fact a_open a_waitWhat a_waitFrom a_waitTo a_callers a_back a_least)
    (h3 : gs_H g r = true → gs_L g r = 3 → ∀ y, (∀ t, t < 32 → (bt y t = true ↔ bt x1 t = true ∨ (t = 8 + r ∧ bt x1 (gs_S g r 1) = true ∧ bt x1 (gs_S g r 2) = true))) → J35 y (nI (r + 1)) f_present f_n f_keptLength ((g0_put (g0_put s (gs_K g r, gs_S g r 0, 8 + r)) (8 + r, gs_S g r 1, gs_S g r 2)).1) f_first f_waiting a_kindOf a_lengthOf a_symbolOf a_word a_kept a_made a_other a_byLength ((g0_put (g0_put s (gs_K g r, gs_S g r 0, 8 + r)) (8 + r, gs_S g r 1, gs_S g r 2)).2.1) ((g0_put (g0_put s (gs_K g r, gs_S g r 0, 8 + r)) (8 + r, gs_S g r 1, gs_S g r 2)).2.2.1) ((g0_put (g0_put s (gs_K g r, gs_S g r 0, 8 + r)) (8 + r, gs_S g r 1, gs_S g r 2)).2.2.2.1) ((g0_put (g0_put s (gs_K g r, gs_S g r 0, 8 + r)) (8 + r, gs_S g r 1, gs_S g r 2)).2.2.2.2.1) a_begun a_fact a_open a_waitWhat a_waitFrom a_waitTo a_callers a_back a_least) :
    wX_cutRules_133 post J35 x1 (nI r) f_present f_n f_keptLength s.1 f_first f_waiting a_kindOf a_lengthOf a_symbolOf a_word a_kept a_made a_other a_byLength s.2.1 s.2.2.1 s.2.2.2.1 s.2.2.2.2.1 a_begun a_fact a_open a_waitWhat a_waitFrom a_waitTo a_callers a_back a_least := by
  have ok := C.1
  have hK := gs_K5 ok hr
  have hL := gs_L3 ok hr
  have h0 := gs_S8 ok hr (show 0 < 3 by omega)
  have h1 := gs_S8 ok hr (show 1 < 3 by omega)
  have h2 := gs_S8 ok hr (show 2 < 3 by omega)
  have hp : s.1 = nI (g0_np s) := P.1
  refine gx_has C hr (fun c => br_t rfl (nm_r (nI_1 r) (hskip (fun d => absurd (c.symm.trans d) (by decide))))) (fun c => br_f gb_10 (And.intro (vp_in_nI hr (by decide)) ?_))
  rw [nI_clamp (by omega), C.2.2.2.2.1 _ hr]
  refine pk_eq (gs_L g r) 3 (fun e => nm_r (e' := nI (8 + r)) (nI_add 8 r) ?_) (fun e => nm_r (nI_1 r) (hskip (fun _ => e)))
  refine gx_sym (d := 0) C hr (by decide) (gx_sym (d := 1) C hr (by decide) (gx_sym (d := 2) C hr (by decide) ?_))
  have j218 : ∀ z y, x1 ||| z = y → (∀ t, t < 32 → (bt y t = true ↔ bt x1 t = true ∨ (t = 8 + r ∧ bt x1 (gs_S g r 1) = true ∧ bt x1 (gs_S g r 2) = true))) →
      wX_cutRules_218 post J35 (nI r) (nI (8 + r)) (nI (gs_S g r 0)) (nI (gs_S g r 1)) (nI (gs_S g r 2)) z x1 f_present f_n f_keptLength s.1 f_first f_waiting a_kindOf a_lengthOf a_symbolOf a_word a_kept a_made a_other a_byLength s.2.1 s.2.2.1 s.2.2.2.1 s.2.2.2.2.1 a_begun a_fact a_open a_waitWhat a_waitFrom a_waitTo a_callers a_back a_least := by
    intro z y ey hy
    refine nm_r ey (And.intro (vp_in_nI hr (by decide)) ?_)
    rw [nI_clamp (by omega), C.2.2.2.1 _ hr]
    refine g0_addPair P.1 (by omega) (by omega) (by omega) (by omega) ?_
    exact g0_addPair (s := g0_put s (gs_K g r, gs_S g r 0, 8 + r)) rfl (show g0_np s + 1 < 32 by omega) (by omega) (by omega) (by omega) (nm_r (nI_1 r) (h3 c e y hy))
  have no : (¬ (bt x1 (gs_S g r 1) = true ∧ bt x1 (gs_S g r 2) = true)) → wX_cutRules_202 post J35 x1 (nI r) (nI (8 + r)) (nI (gs_S g r 0)) (nI (gs_S g r 1)) (nI (gs_S g r 2)) f_present f_n f_keptLength s.1 f_first f_waiting a_kindOf a_lengthOf a_symbolOf a_word a_kept a_made a_other a_byLength s.2.1 s.2.2.1 s.2.2.2.1 s.2.2.2.2.1 a_begun a_fact a_open a_waitWhat a_waitFrom a_waitTo a_callers a_back a_least := by
    intro hno
    refine br_t rfl (j218 0 x1 (gb_or0 x1) (fun t ht => ⟨Or.inl, ?_⟩))
    rintro (h | ⟨_, h⟩)
    · exact h
    · exact absurd h hno
  refine gb_br (gs_S g r 1) (fun c1 => no (fun d => absurd (c1.symm.trans d.1) (by decide))) (fun c1 => gb_br (gs_S g r 2) (fun c2 => no (fun d => absurd (c2.symm.trans d.2) (by decide))) (fun c2 => ?_))
  refine br_f gb_10 (j218 _ _ rfl (fun t ht => ?_))
  rw [b_or, Bool.or_eq_true, gb_one (by omega) ht, decide_eq_true_eq]
  exact or_congr Iff.rfl ⟨fun e => ⟨e, c1, c2⟩, fun e => e.1⟩
def g0_I (g : gs_G) (r : Nat) (x1 : Int32) (s : g0_s) : Prop :=
  g0_np s ≤ 2 * r ∧ g0_PC g s ∧ (∀ r' q, r' < r → gs_H g r' = true → g0_pq g r' q → g0_pm s q) ∧ g0_AS g s.2.1 ∧ (∀ t, t < 24 → bt (s.2.1 t) t = true) ∧
  (∀ r', r' < r → gs_H g r' = true → gs_L g r' = 1 → bt (s.2.1 (gs_S g r' 0)) (gs_K g r') = true) ∧
  (∀ t, t < 32 → (bt x1 t = true ↔ gs_Nul g t ∨ ∃ r', r' < r ∧ gs_H g r' = true ∧ gs_L g r' = 3 ∧ t = 8 + r' ∧ gs_Nul g (gs_S g r' 1) ∧ gs_Nul g (gs_S g r' 2)))
/-- a rule that is not there, or is of length 0 -/
theorem g0_I_skip {r : Nat} {x1 : Int32} {s : g0_s} (I : g0_I g r x1 s) (h : gs_H g r = true → gs_L g r ≠ 1 ∧ gs_L g r ≠ 2 ∧ gs_L g r ≠ 3) : g0_I g (r + 1) x1 s := by
  obtain ⟨i1, i2, i3, i4, i5, i6, i7⟩ := I
  refine ⟨by omega, i2, fun r' q hr' hh hq => ?_, i4, i5, fun r' hr' hh hl => ?_, fun t ht => (i7 t ht).trans (or_congr Iff.rfl ⟨?_, ?_⟩)⟩
  · by_cases e : r' = r
    · rw [e] at hh hq
      have h1 := h hh
      rcases hq with ⟨l, _⟩ | ⟨l, _⟩ | ⟨l, _⟩
      · exact absurd l h1.2.1
      · exact absurd l h1.2.2
      · exact absurd l h1.2.2
    · exact i3 r' q (by omega) hh hq
  · by_cases e : r' = r
    · rw [e] at hh hl
      exact absurd hl (h hh).1
    · exact i6 r' (by omega) hh hl
  · rintro ⟨r', h1, h2⟩; exact ⟨r', by omega, h2⟩
  · rintro ⟨r', h1, hh, hl, h2⟩
    by_cases e : r' = r
    · rw [e] at hh hl
      exact absurd hl (h hh).2.2
    · exact ⟨r', by omega, hh, hl, h2⟩
theorem g0_rules (C : gx_C g f_present f_n a_kindOf a_lengthOf a_symbolOf a_word) {post : SX → Prop} {x0 : Int32} {s0 : g0_s} (I0 : g0_I g 0 x0 s0)
    (h : ∀ x s, g0_I g 16 x s → ∃ n, wX_cutRules_250 post x f_present f_n f_keptLength s.1 f_first f_waiting n 0 a_kindOf a_lengthOf a_symbolOf a_word a_kept a_made a_other a_byLength s.2.1 s.2.2.1 s.2.2.2.1 s.2.2.2.2.1 a_begun a_fact a_open a_waitWhat a_waitFrom a_waitTo a_callers a_back a_least) : ∃ n, wX_cutRules_35 post n x0 0 f_present f_n f_keptLength s0.1 f_first f_waiting a_kindOf a_lengthOf a_symbolOf a_word a_kept a_made a_other a_byLength s0.2.1 s0.2.2.1 s0.2.2.2.1 s0.2.2.2.2.1 a_begun a_fact a_open a_waitWhat a_waitFrom a_waitTo a_callers a_back a_least := by
  have ok := C.1
  refine gl_ex (fun n r (t : Int32 × g0_s) => wX_cutRules_35 post n t.1 (nI r) f_present f_n f_keptLength t.2.1 f_first f_waiting a_kindOf a_lengthOf a_symbolOf a_word a_kept a_made a_other a_byLength t.2.2.1 t.2.2.2.1 t.2.2.2.2.1 t.2.2.2.2.2.1 a_begun a_fact a_open a_waitWhat a_waitFrom a_waitTo a_callers a_back a_least) (fun r t => g0_I g r t.1 t.2) 16 0 (x0, s0) (by omega) I0 ?_ ?_
  · rintro n ⟨x, s⟩ y
    exact br_t (nI_le (a := 16) (by omega) (by omega)) (h x s y)
  · rintro n r ⟨x, s⟩ hr y go
    obtain ⟨i1, i2, i3, i4, i5, i6, i7⟩ := id y
    have i1' : g0_np s ≤ 2 * r := i1
    have hK := gs_K5 ok hr
    have hL := gs_L3 ok hr
    have h0 := gs_S8 ok hr (show 0 < 3 by omega)
    have h1 := gs_S8 ok hr (show 1 < 3 by omega)
    have h2 := gs_S8 ok hr (show 2 < 3 by omega)
    refine br_f (nI_ge (b := 16) (by omega) (by omega)) ?_
    have j133 : (gs_H g r = true → gs_L g r ≠ 1 ∧ gs_L g r ≠ 2) → wX_cutRules_133 post (wX_cutRules_35 post n) x (nI r) f_present f_n f_keptLength s.1 f_first f_waiting a_kindOf a_lengthOf a_symbolOf a_word a_kept a_made a_other a_byLength s.2.1 s.2.2.1 s.2.2.2.1 s.2.2.2.2.1 a_begun a_fact a_open a_waitWhat a_waitFrom a_waitTo a_callers a_back a_least := by
      intro hno
      refine g0_133 C hr i2 i1 (fun hs => go (x, s) (g0_I_skip y (fun hh => ⟨(hno hh).1, (hno hh).2, hs hh⟩))) (fun hh l x' hx' => go (x', _) ⟨?_, ?_, ?_, i4, i5, ?_, ?_⟩)
      · show g0_np s + 1 + 1 ≤ 2 * (r + 1)
        omega
      · exact g0_put_PC (g0_put_PC i2 ⟨r, hr, hh, Or.inr (Or.inl ⟨l, rfl⟩)⟩) ⟨r, hr, hh, Or.inr (Or.inr ⟨l, rfl⟩)⟩
      · intro r' q hr' hh' hq
        by_cases e : r' = r
        · rw [e] at hq
          rcases hq with ⟨l', _⟩ | ⟨_, e1⟩ | ⟨_, e1⟩
          · omega
          · exact g0_put_pm.mpr (Or.inl (g0_put_pm.mpr (Or.inr e1)))
          · exact g0_put_pm.mpr (Or.inr e1)
        · exact g0_put_pm.mpr (Or.inl (g0_put_pm.mpr (Or.inl (i3 r' q (by omega) hh' hq))))
      · intro r' hr' hh' hl'
        by_cases e : r' = r
        · rw [e] at hl'; omega
        · exact i6 r' (by omega) hh' hl'
      · intro t ht
        have n1 : bt x (gs_S g r 1) = true ↔ gs_Nul g (gs_S g r 1) := (i7 _ (by omega)).trans ⟨fun a => a.elim id (fun ⟨r', _, _, _, e, _⟩ => by omega), Or.inl⟩
        have n2 : bt x (gs_S g r 2) = true ↔ gs_Nul g (gs_S g r 2) := (i7 _ (by omega)).trans ⟨fun a => a.elim id (fun ⟨r', _, _, _, e, _⟩ => by omega), Or.inl⟩
        rw [hx' t ht, n1, n2, i7 t ht]
        constructor
        · rintro ((a | ⟨r', b1, b2⟩) | ⟨a1, a2, a3⟩)
          · exact Or.inl a
          · exact Or.inr ⟨r', by omega, b2⟩
          · exact Or.inr ⟨r, by omega, hh, l, a1, a2, a3⟩
        · rintro (a | ⟨r', b1, b2, b3, b4, b5⟩)
          · exact Or.inl (Or.inl a)
          · by_cases e : r' = r
            · rw [e] at b4 b5; exact Or.inr ⟨b4, b5⟩
            · exact Or.inl (Or.inr ⟨r', by omega, b2, b3, b4, b5⟩)
    have j84 : (gs_H g r = true → gs_L g r ≠ 1) → wX_cutRules_84 post (wX_cutRules_35 post n) x (nI r) f_present f_n f_keptLength s.1 f_first f_waiting a_kindOf a_lengthOf a_symbolOf a_word a_kept a_made a_other a_byLength s.2.1 s.2.2.1 s.2.2.2.1 s.2.2.2.2.1 a_begun a_fact a_open a_waitWhat a_waitFrom a_waitTo a_callers a_back a_least := by
      intro hno
      refine gx_has C hr (fun c => br_t rfl (j133 (fun d => absurd (c.symm.trans d) (by decide)))) (fun c => br_f gb_10 (And.intro (vp_in_nI hr (by decide)) ?_))
      rw [nI_clamp (by omega), C.2.2.2.2.1 _ hr]
      refine pk_eq (gs_L g r) 2 (fun l => ?_) (fun e => j133 (fun d => ⟨hno d, e⟩))
      refine gx_sym (d := 0) C hr (by decide) (gx_sym (d := 1) C hr (by decide) (And.intro (vp_in_nI hr (by decide)) ?_))
      rw [C.2.2.2.1 _ hr]
      refine g0_addPair i2.1 (show g0_np s < 32 by omega) (by omega) (by omega) (by omega) (nm_r (nI_1 r) (go (x, g0_put s (gs_K g r, gs_S g r 0, gs_S g r 1)) ⟨?_, ?_, ?_, i4, i5, ?_, ?_⟩))
      · show g0_np s + 1 ≤ 2 * (r + 1)
        omega
      · exact g0_put_PC i2 ⟨r, hr, c, Or.inl ⟨l, rfl⟩⟩
      · intro r' q hr' hh' hq
        by_cases e : r' = r
        · rw [e] at hq
          rcases hq with ⟨_, e1⟩ | ⟨l', e1⟩ | ⟨l', e1⟩
          · exact g0_put_pm.mpr (Or.inr e1)
          · omega
          · omega
        · exact g0_put_pm.mpr (Or.inl (i3 r' q (by omega) hh' hq))
      · intro r' hr' hh' hl'
        by_cases e : r' = r
        · rw [e] at hl'; omega
        · exact i6 r' (by omega) hh' hl'
      · intro t ht
        refine (i7 t ht).trans (or_congr Iff.rfl ⟨?_, ?_⟩)
        · rintro ⟨r', b1, b2⟩; exact ⟨r', by omega, b2⟩
        · rintro ⟨r', b1, b2, b3, b4⟩
          by_cases e : r' = r
          · rw [e] at b3; omega
          · exact ⟨r', by omega, b2, b3, b4⟩
    refine gx_has C hr (fun c => br_t rfl (j84 (fun d => absurd (c.symm.trans d) (by decide)))) (fun c => br_f gb_10 (And.intro (vp_in_nI hr (by decide)) ?_))
    rw [nI_clamp (by omega), C.2.2.2.2.1 _ hr]
    refine pk_eq (gs_L g r) 1 (fun l => ?_) (fun e => j84 (fun _ => e))
    refine gx_sym (d := 0) C hr (by decide) (And.intro (vp_in_nI (by omega) (by decide)) (And.intro (vp_in_nI hr (by decide)) (And.intro (vp_in_nI (by omega) (by decide)) ?_)))
    rw [C.2.2.2.1 _ hr, nI_clamp (by omega)]
    refine nm_e (nm_r (nI_1 r) (go (x, (s.1, upd s.2.1 (gs_S g r 0) (s.2.1 (gs_S g r 0) ||| ((1 : Int32) <<< (nI (gs_K g r) &&& 31))), s.2.2)) ⟨show g0_np s ≤ 2 * (r + 1) by omega, i2, ?_, ?_, ?_, ?_, ?_⟩))
    · intro r' q hr' hh' hq
      by_cases e : r' = r
      · rw [e] at hq
        rcases hq with ⟨l', e1⟩ | ⟨l', e1⟩ | ⟨l', e1⟩ <;> omega
      · exact i3 r' q (by omega) hh' hq
    · intro a t ha ht hb
      rcases (gx_bup _ _).mp hb with hb | ⟨e, hb⟩
      · exact i4 a t ha ht hb
      · rw [gb_one (by omega) (by omega), decide_eq_true_eq] at hb
        rw [e, hb]
        intro i j hij hw
        have rg := g0_W_rng hw
        refine Or.inl ⟨by omega, Or.inl ⟨hK, gs_Der_cl g r hr c i j (by omega) ?_⟩⟩
        rw [l]
        exact ⟨i, rfl, g0_W8 h0 hw⟩
    · intro t ht
      exact (gx_bup _ _).mpr (Or.inl (i5 t ht))
    · intro r' hr' hh' hl'
      by_cases e : r' = r
      · rw [e]
        exact (gx_bup _ _).mpr (Or.inr ⟨rfl, by rw [gb_one (by omega) (by omega)]; simp⟩)
      · exact (gx_bup _ _).mpr (Or.inl (i6 r' (by omega) hh' hl'))
    · intro t ht
      refine (i7 t ht).trans (or_congr Iff.rfl ⟨?_, ?_⟩)
      · rintro ⟨r', b1, b2⟩; exact ⟨r', by omega, b2⟩
      · rintro ⟨r', b1, b2, b3, b4⟩
        by_cases e : r' = r
        · rw [e] at b3; omega
        · exact ⟨r', by omega, b2, b3, b4⟩
end
end
section
/-! engine 0: what is above, Warshall, cutRules -/
def g0_tr (M : Nat) (ab : Nat → Int32) : Prop := ∀ i s t, i < M → s < 24 → t < 24 → bt (ab s) i = true → bt (ab i) t = true → bt (ab s) t = true
/-- what cutRules leaves -/
def g0_F (g : gs_G) (s : g0_s) : Prop :=
  g0_np s ≤ 32 ∧ g0_PC g s ∧ (∀ q, g0_pp g q → g0_pm s q) ∧ g0_AS g s.2.1 ∧ (∀ t, t < 24 → bt (s.2.1 t) t = true) ∧
  (∀ r, r < 16 → gs_H g r = true → gs_L g r = 1 → bt (s.2.1 (gs_S g r 0)) (gs_K g r) = true) ∧
  (∀ w a b, g0_pp g (w, a, b) → (g0_Nu g a → bt (s.2.1 b) w = true) ∧ (g0_Nu g b → bt (s.2.1 a) w = true)) ∧ g0_tr 24 s.2.1
section
variable {g : gs_G} {f_present f_n f_keptLength f_pairs f_first f_waiting : Int32} {a_kindOf a_lengthOf a_symbolOf a_word a_kept a_made a_other a_byLength a_above a_firstHalf a_secondHalf a_wholeOf a_begun a_fact a_open a_waitWhat a_waitFrom a_waitTo a_callers a_back a_least : Nat → Int32}
/-- one stage of Warshall -/
theorem g0_352 {post : SX → Prop} {J344 : Int32 → (Nat → Int32) → (Nat → Int32) → (Nat → Int32) → (Nat → Int32) → (Nat → Int32) → (Nat → Int32) → (Nat → Int32) → (Nat → Int32) → (Nat → Int32) → (Nat → Int32) → (Nat → Int32) → (Nat → Int32) → (Nat → Int32) → (Nat → Int32) → (Nat → Int32) → (Nat → Int32) → (Nat → Int32) → (Nat → Int32) → (Nat → Int32) → (Nat → Int32) → (Nat → Int32) → Prop} {m : Nat} (hm : m < 24)
    (hJ : ∀ ab, (∀ s t, s < 24 → t < 24 → (bt (ab s) t = true ↔ bt (a_above s) t = true ∨ (bt (a_above s) m = true ∧ bt (a_above m) t = true))) → J344 (nI (m + 1)) a_kindOf a_lengthOf a_symbolOf a_word a_kept a_made a_other a_byLength ab a_firstHalf a_secondHalf a_wholeOf a_begun a_fact a_open a_waitWhat a_waitFrom a_waitTo a_callers a_back a_least) :
    ∃ n, wX_cutRules_352 post J344 (nI m) f_present f_n f_keptLength f_pairs f_first f_waiting n 0 a_kindOf a_lengthOf a_symbolOf a_word a_kept a_made a_other a_byLength a_above a_firstHalf a_secondHalf a_wholeOf a_begun a_fact a_open a_waitWhat a_waitFrom a_waitTo a_callers a_back a_least := by
  refine gl_ex (fun n s ab => wX_cutRules_352 post J344 (nI m) f_present f_n f_keptLength f_pairs f_first f_waiting n (nI s) a_kindOf a_lengthOf a_symbolOf a_word a_kept a_made a_other a_byLength ab a_firstHalf a_secondHalf a_wholeOf a_begun a_fact a_open a_waitWhat a_waitFrom a_waitTo a_callers a_back a_least)
    (fun s ab => ∀ s' t, s' < 24 → t < 24 → (bt (ab s') t = true ↔ bt (a_above s') t = true ∨ (s' < s ∧ bt (a_above s') m = true ∧ bt (a_above m) t = true))) 24 0 a_above (by omega) (fun s' t _ _ => ⟨Or.inl, fun h => h.elim id (fun c => absurd c.1 (by omega))⟩) ?_ ?_
  · intro n ab y
    refine br_t (nI_le (a := 24) (by omega) (by omega)) (nm_r (nI_1 m) (hJ ab (fun s t hs ht => (y s t hs ht).trans (or_congr Iff.rfl ⟨fun c => c.2, fun c => ⟨hs, c⟩⟩))))
  · intro n s ab hs y go
    refine br_f (nI_ge (b := 24) (by omega) (by omega)) (And.intro (vp_in_nI hs (by decide)) (And.intro (vp_in_nI hs (by decide)) ?_))
    rw [nI_clamp (by omega), nI_clamp (by omega)]
    have ym := y s m hs hm
    refine gb_br m (fun c => And.intro (vp_in_nI hs (by decide)) ?_) (fun c => And.intro (vp_in_nI hm (by decide)) (And.intro (vp_in_nI hs (by decide)) ?_))
    · refine nm_r (gb_upd_id (gb_or0 _)) (nm_r (nI_1 s) (go ab (fun s' t hs' ht => (y s' t hs' ht).trans (or_congr Iff.rfl ⟨fun d => ⟨by omega, d.2⟩, fun d => ⟨?_, d.2⟩⟩))))
      have h1 := d.1
      by_cases e : s' = s
      · rw [e] at d
        have := ym.mpr (Or.inl d.2.1)
        rw [c] at this
        exact absurd this (by decide)
      · omega
    · refine nm_e (nm_r (nI_1 s) (go _ (fun s' t hs' ht => (gx_bup _ _).trans ?_)))
      have c1 : bt (a_above s) m = true := by
        rcases ym.mp c with d | d
        · exact d
        · exact d.2.1
      have c2 : bt (ab m) t = true ↔ bt (a_above m) t = true := (y m t hm ht).trans ⟨fun d => d.elim id (fun d => d.2.2), Or.inl⟩
      rw [y s' t hs' ht, c2]
      constructor
      · rintro ((d | d) | ⟨e, d⟩)
        · exact Or.inl d
        · exact Or.inr ⟨by omega, d.2⟩
        · rw [e]; exact Or.inr ⟨by omega, c1, d⟩
      · rintro (d | ⟨d1, d2, d3⟩)
        · exact Or.inl (Or.inl d)
        · by_cases e : s' = s
          · exact Or.inr ⟨e, d3⟩
          · exact Or.inl (Or.inr ⟨by omega, d2, d3⟩)
theorem g0_344 {post : SX → Prop} (hA : g0_AS g a_above)
    (h : ∀ ab, g0_AS g ab → (∀ s t, s < 24 → t < 24 → bt (a_above s) t = true → bt (ab s) t = true) → g0_tr 24 ab → post (f_present, f_n, f_keptLength, f_pairs, f_first, f_waiting, a_kindOf, a_lengthOf, a_symbolOf, a_word, a_kept, a_made, a_other, a_byLength, ab, a_firstHalf, a_secondHalf, a_wholeOf, a_begun, a_fact, a_open, a_waitWhat, a_waitFrom, a_waitTo, a_callers, a_back, a_least)) :
    ∃ n, wX_cutRules_344 post f_present f_n f_keptLength f_pairs f_first f_waiting n 0 a_kindOf a_lengthOf a_symbolOf a_word a_kept a_made a_other a_byLength a_above a_firstHalf a_secondHalf a_wholeOf a_begun a_fact a_open a_waitWhat a_waitFrom a_waitTo a_callers a_back a_least := by
  refine gl_ex (fun n m ab => wX_cutRules_344 post f_present f_n f_keptLength f_pairs f_first f_waiting n (nI m) a_kindOf a_lengthOf a_symbolOf a_word a_kept a_made a_other a_byLength ab a_firstHalf a_secondHalf a_wholeOf a_begun a_fact a_open a_waitWhat a_waitFrom a_waitTo a_callers a_back a_least)
    (fun m ab => g0_AS g ab ∧ (∀ s t, s < 24 → t < 24 → bt (a_above s) t = true → bt (ab s) t = true) ∧ g0_tr m ab) 24 0 a_above (by omega) ⟨hA, fun _ _ _ _ h => h, fun i s t hi => absurd hi (by omega)⟩ ?_ ?_
  · rintro n ab ⟨y1, y2, y3⟩
    exact br_t (nI_le (a := 24) (by omega) (by omega)) (h ab y1 y2 y3)
  · rintro n m ab hm ⟨y1, y2, y3⟩ go
    refine br_f (nI_ge (b := 24) (by omega) (by omega)) (g0_352 (a_above := ab) hm (fun ab' e => go ab' ⟨?_, ?_, ?_⟩))
    · intro s t hs ht hb
      rcases (e s t hs ht).mp hb with hb | ⟨h1, h2⟩
      · exact y1 s t hs ht hb
      · intro i j hij hw
        exact y1 m t hm ht h2 i j hij (y1 s m hs hm h1 i j hij hw)
    · intro s t hs ht hb
      exact (e s t hs ht).mpr (Or.inl (y2 s t hs ht hb))
    · intro i s t hi hs ht h1 h2
      rw [e s t hs ht]
      rw [e s i hs (by omega)] at h1
      rw [e i t (by omega) ht] at h2
      by_cases ei : i = m
      · rw [ei] at h1 h2
        have k1 : bt (ab s) m = true := h1.elim id (fun c => c.1)
        have k2 : bt (ab m) t = true := h2.elim id (fun c => c.2)
        exact Or.inr ⟨k1, k2⟩
      · rcases h1 with h1 | ⟨h1, h1'⟩
        · rcases h2 with h2 | ⟨h2, h2'⟩
          · exact Or.inl (y3 i s t (by omega) hs ht h1 h2)
          · exact Or.inr ⟨y3 i s m (by omega) hs hm h1 h2, h2'⟩
        · rcases h2 with h2 | ⟨h2, h2'⟩
          · exact Or.inr ⟨h1, y3 i m t (by omega) hm ht h1' h2⟩
          · exact Or.inr ⟨h1, h2'⟩
/-- the pairs of which one part may be empty -/
theorem g0_250 (ok : gs_ok g) {post : SX → Prop} {x : Int32} {s : g0_s} (hn : g0_np s ≤ 32) (P : g0_PC g s) (hx : ∀ t, t < 24 → (bt x t = true ↔ g0_Nu g t)) (hA : g0_AS g s.2.1)
    (h : ∀ ab, g0_AS g ab → (∀ a t, bt (s.2.1 a) t = true → bt (ab a) t = true) → (∀ w a b, g0_pm s (w, a, b) → (g0_Nu g a → bt (ab b) w = true) ∧ (g0_Nu g b → bt (ab a) w = true)) →
      ∃ n, wX_cutRules_344 post f_present f_n f_keptLength s.1 f_first f_waiting n 0 a_kindOf a_lengthOf a_symbolOf a_word a_kept a_made a_other a_byLength ab s.2.2.1 s.2.2.2.1 s.2.2.2.2.1 a_begun a_fact a_open a_waitWhat a_waitFrom a_waitTo a_callers a_back a_least) :
    ∃ n, wX_cutRules_250 post x f_present f_n f_keptLength s.1 f_first f_waiting n 0 a_kindOf a_lengthOf a_symbolOf a_word a_kept a_made a_other a_byLength s.2.1 s.2.2.1 s.2.2.2.1 s.2.2.2.2.1 a_begun a_fact a_open a_waitWhat a_waitFrom a_waitTo a_callers a_back a_least := by
  refine gl_ex (fun n p ab => wX_cutRules_250 post x f_present f_n f_keptLength s.1 f_first f_waiting n (nI p) a_kindOf a_lengthOf a_symbolOf a_word a_kept a_made a_other a_byLength ab s.2.2.1 s.2.2.2.1 s.2.2.2.2.1 a_begun a_fact a_open a_waitWhat a_waitFrom a_waitTo a_callers a_back a_least)
    (fun p ab => g0_AS g ab ∧ (∀ a t, bt (s.2.1 a) t = true → bt (ab a) t = true) ∧ (∀ p' w a b, p' < p → g0_pr s p' = (w, a, b) → (g0_Nu g a → bt (ab b) w = true) ∧ (g0_Nu g b → bt (ab a) w = true))) (g0_np s) 0 s.2.1 (by omega) ⟨hA, fun _ _ h => h, fun p' w a b h => absurd h (by omega)⟩ ?_ ?_
  · rintro n ab ⟨y1, y2, y3⟩
    refine br_t (by rw [P.1]; exact nI_le (by omega) (by omega)) (h ab y1 y2 (fun w a b hm => ?_))
    obtain ⟨p, hp, e⟩ := hm
    exact y3 p w a b hp e
  · rintro n p ab hp ⟨y1, y2, y3⟩ go
    obtain ⟨w, a, b, epr⟩ : ∃ w a b, g0_pr s p = (w, a, b) := ⟨_, _, _, rfl⟩
    have hP := P.2 p hp
    rw [epr] at hP
    obtain ⟨pp, pw, pa, pb⟩ := hP
    have pw' : s.2.2.2.2.1 p = nI w := pw
    have pa' : s.2.2.1 p = nI a := pa
    have pb' : s.2.2.2.1 p = nI b := pb
    obtain ⟨bw, ba, bb⟩ := g0_pp_b ok pp
    have hin : vp_in (nI p) 32 := vp_in_nI (by omega) (by decide)
    refine br_f (by rw [P.1]; exact nI_ge (by omega) (by omega)) (And.intro hin ?_)
    rw [nI_clamp (by omega), pb', pa', pw', nI_clamp (by omega)]
    have inb : vp_in (nI b) 24 := vp_in_nI bb (by decide)
    have ina : vp_in (nI a) 24 := vp_in_nI ba (by decide)
    refine And.intro inb (And.intro hin ?_)
    -- both writes
    have j295 : ∀ z0, (∀ t, t < 32 → (bt z0 t = true ↔ t = w ∧ g0_Nu g a)) → wX_cutRules_295 post (wX_cutRules_250 post x f_present f_n f_keptLength s.1 f_first f_waiting n) x (nI p) z0 (ab b) (nI b) f_present f_n f_keptLength s.1 f_first f_waiting a_kindOf a_lengthOf a_symbolOf a_word a_kept a_made a_other a_byLength ab s.2.2.1 s.2.2.2.1 s.2.2.2.2.1 a_begun a_fact a_open a_waitWhat a_waitFrom a_waitTo a_callers a_back a_least := by
      intro z0 hz0
      refine And.intro inb ?_
      rw [nI_clamp (by omega)]
      refine nm_e (And.intro hin ?_)
      rw [nI_clamp (by omega), pb', pa', pw', nI_clamp (by omega)]
      refine And.intro ina (And.intro hin ?_)
      have last : ∀ z1, (∀ t, t < 32 → (bt z1 t = true ↔ t = w ∧ g0_Nu g b)) → wX_cutRules_250 post x f_present f_n f_keptLength s.1 f_first f_waiting n (nI (p + 1)) a_kindOf a_lengthOf a_symbolOf a_word a_kept a_made a_other a_byLength (upd (upd ab b (ab b ||| z0)) a (upd ab b (ab b ||| z0) a ||| z1)) s.2.2.1 s.2.2.2.1 s.2.2.2.2.1 a_begun a_fact a_open a_waitWhat a_waitFrom a_waitTo a_callers a_back a_least := by
        intro z1 hz1
        have bits : ∀ s' t, t < 32 → (bt (upd (upd ab b (ab b ||| z0)) a (upd ab b (ab b ||| z0) a ||| z1) s') t = true ↔ bt (ab s') t = true ∨ (s' = b ∧ t = w ∧ g0_Nu g a) ∨ (s' = a ∧ t = w ∧ g0_Nu g b)) := by
          intro s' t ht
          rw [gx_bup, gx_bup, hz0 t ht, hz1 t ht, or_assoc]
        refine go _ ⟨?_, ?_, ?_⟩
        · intro s' t hs' ht hb
          rcases (bits s' t (by omega)).mp hb with hb | ⟨e1, e2, nu⟩ | ⟨e1, e2, nu⟩
          · exact y1 s' t hs' ht hb
          · rw [e1, e2]
            intro i j hij hw
            have rg := g0_W_rng hw
            exact g0_pp_W ok pp (g0_Nu_W ok nu (by omega)) hw
          · rw [e1, e2]
            intro i j hij hw
            have rg := g0_W_rng hw
            exact g0_pp_W ok pp hw (g0_Nu_W ok nu (by omega))
        · intro a' t hb
          have hb' := y2 a' t hb
          by_cases ht : t < 32
          · exact (bits a' t ht).mpr (Or.inl hb')
          · rw [b_big (by omega)] at hb'
            exact absurd hb' (by decide)
        · intro p' w' a' b' hp' e
          by_cases ep : p' = p
          · rw [ep, epr] at e
            obtain ⟨e1, e2, e3⟩ := g2_pair e
            subst e1 e2 e3
            exact ⟨fun nu => (bits _ _ (by omega)).mpr (Or.inr (Or.inl ⟨rfl, rfl, nu⟩)), fun nu => (bits _ _ (by omega)).mpr (Or.inr (Or.inr ⟨rfl, rfl, nu⟩))⟩
          · have h1 := y3 p' w' a' b' (by omega) e
            have bp : w' < 24 := by
              have h2 := (P.2 p' (by omega)).1
              rw [e] at h2
              exact (g0_pp_b ok h2).1
            exact ⟨fun nu => (bits _ _ (by omega)).mpr (Or.inl (h1.1 nu)), fun nu => (bits _ _ (by omega)).mpr (Or.inl (h1.2 nu))⟩
      refine gb_br b (fun c => And.intro ina (nm_e (nm_r (nI_1 p) (last 0 (fun t ht => ?_))))) (fun c => And.intro hin (And.intro ina (nm_e (nm_r (nI_1 p) (last _ (fun t ht => ?_))))))
      · rw [b_0]
        refine ⟨fun d => absurd d (by decide), fun d => ?_⟩
        have := (hx b bb).mpr d.2
        rw [c] at this
        exact absurd this (by decide)
      · rw [gb_one (by omega) ht, decide_eq_true_eq]
        exact ⟨fun d => ⟨d, (hx b bb).mp c⟩, fun d => d.1⟩
    refine gb_br a (fun c => j295 0 (fun t ht => ?_)) (fun c => And.intro hin (j295 _ (fun t ht => ?_)))
    · rw [b_0]
      refine ⟨fun d => absurd d (by decide), fun d => ?_⟩
      have := (hx a ba).mpr d.2
      rw [c] at this
      exact absurd this (by decide)
    · rw [gb_one (by omega) ht, decide_eq_true_eq]
      exact ⟨fun d => ⟨d, (hx a ba).mp c⟩, fun d => d.1⟩
theorem g0_cut (C : gx_C g f_present f_n a_kindOf a_lengthOf a_symbolOf a_word) {post : SX → Prop} (h : ∀ s, g0_F g s → post (f_present, f_n, f_keptLength, s.1, f_first, f_waiting, a_kindOf, a_lengthOf, a_symbolOf, a_word, a_kept, a_made, a_other, a_byLength, s.2.1, s.2.2.1, s.2.2.2.1, s.2.2.2.2.1, a_begun, a_fact, a_open, a_waitWhat, a_waitFrom, a_waitTo, a_callers, a_back, a_least)) : wpX_cutRules post (f_present, f_n, f_keptLength, f_pairs, f_first, f_waiting, a_kindOf, a_lengthOf, a_symbolOf, a_word, a_kept, a_made, a_other, a_byLength, a_above, a_firstHalf, a_secondHalf, a_wholeOf, a_begun, a_fact, a_open, a_waitWhat, a_waitFrom, a_waitTo, a_callers, a_back, a_least) := by
  have ok := C.1
  refine gx_empty C (fun x hx => ?_)
  refine gl_fill (fun n i ab => wX_cutRules_12 post x f_present f_n f_keptLength 0 f_first f_waiting n i a_kindOf a_lengthOf a_symbolOf a_word a_kept a_made a_other a_byLength ab a_firstHalf a_secondHalf a_wholeOf a_begun a_fact a_open a_waitWhat a_waitFrom a_waitTo a_callers a_back a_least) 24 (fun s => (1 : Int32) <<< (nI s &&& 31)) ?_ ?_ a_above
  · intro n ab hab
    refine br_t (nI_le (a := 24) (by omega) (by omega)) ?_
    refine g0_rules (s0 := (0, ab, a_firstHalf, a_secondHalf, a_wholeOf, 0, fun _ => (0, 0, 0))) C ⟨Nat.le_refl 0, ⟨rfl, fun p hp => absurd hp (Nat.not_lt_zero p)⟩, fun r' q hr' => absurd hr' (Nat.not_lt_zero r'), ?_, ?_, fun r' hr' => absurd hr' (Nat.not_lt_zero r'), ?_⟩ (fun x' s I => ?_)
    · intro a t ha ht hb
      have hb' : bt (ab a) t = true := hb
      rw [hab a ha, gb_one (by omega) (by omega), decide_eq_true_eq] at hb'
      rw [hb']
      exact fun i j _ hw => hw
    · intro t ht
      show bt (ab t) t = true
      rw [hab t ht, gb_one (by omega) (by omega)]
      simp
    · intro t ht
      rw [hx t]
      refine ⟨Or.inl, fun d => d.elim id (fun ⟨r', hr', _⟩ => absurd hr' (Nat.not_lt_zero r'))⟩
    · obtain ⟨i1, i2, i3, i4, i5, i6, i7⟩ := I
      have pm : ∀ q, g0_pp g q → g0_pm s q := by
        rintro q ⟨r, hr, hh, hq⟩
        exact i3 r q hr hh hq
      refine g0_250 ok (by omega) i2 (fun t ht => i7 t (by omega)) i4 (fun ab' a1 a2 a3 => ?_)
      refine g0_344 (f_pairs := s.1) (a_firstHalf := s.2.2.1) (a_secondHalf := s.2.2.2.1) (a_wholeOf := s.2.2.2.2.1) (a_above := ab') a1 (fun ab2 b1 b2 b3 => ?_)
      refine h (s.1, ab2, s.2.2) ⟨show g0_np s ≤ 32 by omega, i2, pm, b1, fun t ht => b2 t t ht ht (a2 t t (i5 t ht)), fun r hr hh hl => ?_, fun w a b hp => ?_, b3⟩
      · have hK := gs_K5 ok hr
        have h0 := gs_S8 ok hr (show 0 < 3 by omega)
        exact b2 _ _ (by omega) (by omega) (a2 _ _ (i6 r hr hh hl))
      · obtain ⟨bw, ba, bb⟩ := g0_pp_b ok hp
        have h1 := a3 w a b (pm _ hp)
        exact ⟨fun nu => b2 _ _ bb bw (h1.1 nu), fun nu => b2 _ _ ba bw (h1.2 nu)⟩
  · intro n i a hi hh
    refine br_f (nI_ge (b := 24) (by omega) (by omega)) (And.intro (vp_in_nI hi (by decide)) ?_)
    rw [nI_clamp (by omega)]
    exact nm_e (nm_r (nI_1 i) hh)
end
end
section
/-! engine 0: closed, putTogether, stretchSet, enterSet, solveByLengths -/
section
variable {g : gs_G} {f_present f_n f_keptLength f_pairs f_first f_waiting : Int32} {a_kindOf a_lengthOf a_symbolOf a_word a_kept a_made a_other a_byLength a_above a_firstHalf a_secondHalf a_wholeOf a_begun a_fact a_open a_waitWhat a_waitFrom a_waitTo a_callers a_back a_least : Nat → Int32}
theorem g0_closed {x : Int32} {post : Int32 → Prop} (h : ∀ y, (∀ u, u < 24 → (bt y u = true ↔ ∃ t, t < 24 ∧ bt x t = true ∧ bt (a_above t) u = true)) → post y) : wpX_closed post (f_present, f_n, f_keptLength, f_pairs, f_first, f_waiting, a_kindOf, a_lengthOf, a_symbolOf, a_word, a_kept, a_made, a_other, a_byLength, a_above, a_firstHalf, a_secondHalf, a_wholeOf, a_begun, a_fact, a_open, a_waitWhat, a_waitFrom, a_waitTo, a_callers, a_back, a_least) x := by
  refine gl_ex (fun n t y => wX_closed_4 post x f_present f_n f_keptLength f_pairs f_first f_waiting a_kindOf a_lengthOf a_symbolOf a_word a_kept a_made a_other a_byLength a_above a_firstHalf a_secondHalf a_wholeOf a_begun a_fact a_open a_waitWhat a_waitFrom a_waitTo a_callers a_back a_least n y (nI t)) (fun t y => ∀ u, u < 24 → (bt y u = true ↔ ∃ t', t' < t ∧ bt x t' = true ∧ bt (a_above t') u = true)) 24 0 0 (by omega) ?_ ?_ ?_
  · intro u hu
    rw [b_0]
    exact ⟨fun d => absurd d (by decide), fun ⟨t', h, _⟩ => absurd h (by omega)⟩
  · intro n y hy
    exact br_t (nI_le (a := 24) (by omega) (by omega)) (h y hy)
  · intro n t y ht hy go
    refine br_f (nI_ge (b := 24) (by omega) (by omega)) (gb_br t (fun c => ?_) (fun c => And.intro (vp_in_nI ht (by decide)) ?_))
    · refine nm_r (gb_or0 y) (nm_r (nI_1 t) (go y (fun u hu => (hy u hu).trans ⟨?_, ?_⟩)))
      · rintro ⟨t', d1, d2⟩; exact ⟨t', by omega, d2⟩
      · rintro ⟨t', d1, d2, d3⟩
        by_cases e : t' = t
        · rw [e, c] at d2; exact absurd d2 (by decide)
        · exact ⟨t', by omega, d2, d3⟩
    · rw [nI_clamp (by omega)]
      refine nm_e (nm_r (nI_1 t) (go _ (fun u hu => ?_)))
      rw [b_or, Bool.or_eq_true, hy u hu]
      constructor
      · rintro (⟨t', d1, d2⟩ | d)
        · exact ⟨t', by omega, d2⟩
        · exact ⟨t, by omega, c, d⟩
      · rintro ⟨t', d1, d2, d3⟩
        by_cases e : t' = t
        · rw [e] at d3; exact Or.inr d3
        · exact Or.inl ⟨t', by omega, d2, d3⟩
theorem g0_puts (ok : gs_ok g) {s : g0_s} (F : g0_F g s) {post : Int32 → Prop} {i l sp : Nat} (hi : i + l ≤ 10) (hsp : sp < l)
    (h : ∀ y, (∀ u, u < 24 → (bt y u = true ↔ ∃ a b, g0_pp g (u, a, b) ∧ bt (a_byLength (i * 11 + sp)) a = true ∧ bt (a_byLength ((i + sp) * 11 + (l - sp))) b = true)) → post y) : wpX_putTogether post (f_present, f_n, f_keptLength, s.1, f_first, f_waiting, a_kindOf, a_lengthOf, a_symbolOf, a_word, a_kept, a_made, a_other, a_byLength, s.2.1, s.2.2.1, s.2.2.2.1, s.2.2.2.2.1, a_begun, a_fact, a_open, a_waitWhat, a_waitFrom, a_waitTo, a_callers, a_back, a_least) (nI i) (nI l) (nI sp) := by
  have e1 := ix_11 i sp
  have e2 : (nI i + nI sp) * 11 + nI l - nI sp = nI ((i + sp) * 11 + (l - sp)) := by
    rw [nI_add, ix_11, pk_sub (by omega)]
    exact congrArg nI (by omega)
  have P := F.2.1
  have hn := F.1
  refine And.intro (by rw [e1]; exact vp_in_nI (by omega) (by decide)) (nm_r (e' := a_byLength (i * 11 + sp)) (by rw [e1, nI_clamp (by omega)]) (And.intro (by rw [e2]; exact vp_in_nI (by omega) (by decide)) (nm_r (e' := a_byLength ((i + sp) * 11 + (l - sp))) (by rw [e2, nI_clamp (by omega)]) ?_)))
  refine gl_ex (fun n p y => wX_putTogether_36 post (a_byLength (i * 11 + sp)) (a_byLength ((i + sp) * 11 + (l - sp))) f_present f_n f_keptLength s.1 f_first f_waiting a_kindOf a_lengthOf a_symbolOf a_word a_kept a_made a_other a_byLength s.2.1 s.2.2.1 s.2.2.2.1 s.2.2.2.2.1 a_begun a_fact a_open a_waitWhat a_waitFrom a_waitTo a_callers a_back a_least n y (nI p))
    (fun p y => ∀ u, u < 24 → (bt y u = true ↔ ∃ p' a b, p' < p ∧ g0_pr s p' = (u, a, b) ∧ bt (a_byLength (i * 11 + sp)) a = true ∧ bt (a_byLength ((i + sp) * 11 + (l - sp))) b = true)) (g0_np s) 0 0 (by omega) ?_ ?_ ?_
  · intro u hu
    rw [b_0]
    exact ⟨fun d => absurd d (by decide), fun ⟨p', _, _, h, _⟩ => absurd h (by omega)⟩
  · intro n y hy
    refine br_t (by rw [P.1]; exact nI_le (by omega) (by omega)) (h y (fun u hu => (hy u hu).trans ⟨?_, ?_⟩))
    · rintro ⟨p', a, b, d1, d2, d3⟩
      have h1 := (P.2 p' d1).1
      rw [d2] at h1
      exact ⟨a, b, h1, d3⟩
    · rintro ⟨a, b, d1, d2⟩
      obtain ⟨p', d3, d4⟩ := F.2.2.1 _ d1
      exact ⟨p', a, b, d3, d4, d2⟩
  · intro n p y hp hy go
    obtain ⟨w, a, b, epr⟩ : ∃ w a b, g0_pr s p = (w, a, b) := ⟨_, _, _, rfl⟩
    have hP := P.2 p hp
    rw [epr] at hP
    obtain ⟨pp, pw, pa, pb⟩ := hP
    have pw' : s.2.2.2.2.1 p = nI w := pw
    have pa' : s.2.2.1 p = nI a := pa
    have pb' : s.2.2.2.1 p = nI b := pb
    obtain ⟨bw, ba, bb⟩ := g0_pp_b ok pp
    have hin : vp_in (nI p) 32 := vp_in_nI (by omega) (by decide)
    refine br_f (by rw [P.1]; exact nI_ge (by omega) (by omega)) (And.intro hin ?_)
    rw [nI_clamp (by omega), pb', pa', pw']
    have keep : (¬ (bt (a_byLength (i * 11 + sp)) a = true ∧ bt (a_byLength ((i + sp) * 11 + (l - sp))) b = true)) → ∀ u, u < 24 → (bt y u = true ↔ ∃ p' a b, p' < p + 1 ∧ g0_pr s p' = (u, a, b) ∧ bt (a_byLength (i * 11 + sp)) a = true ∧ bt (a_byLength ((i + sp) * 11 + (l - sp))) b = true) := by
      intro no u hu
      refine (hy u hu).trans ⟨?_, ?_⟩
      · rintro ⟨p', a', b', d1, d2⟩; exact ⟨p', a', b', by omega, d2⟩
      · rintro ⟨p', a', b', d1, d2, d3⟩
        by_cases e : p' = p
        · rw [e, epr] at d2
          obtain ⟨_, q2, q3⟩ := g2_pair d2
          rw [← q2, ← q3] at d3
          exact absurd d3 no
        · exact ⟨p', a', b', by omega, d2, d3⟩
    refine gb_br a (fun c => nm_r (gb_or0 y) (nm_r (nI_1 p) (go y (keep (fun d => absurd (c.symm.trans d.1) (by decide)))))) (fun c => And.intro hin (gb_br b (fun c2 => nm_r (gb_or0 y) (nm_r (nI_1 p) (go y (keep (fun d => absurd (c2.symm.trans d.2) (by decide)))))) (fun c2 => And.intro hin (nm_e (nm_r (nI_1 p) (go _ (fun u hu => ?_)))))))
    rw [b_or, Bool.or_eq_true, hy u hu, gb_one (by omega) (by omega), decide_eq_true_eq]
    constructor
    · rintro (⟨p', a', b', d1, d2⟩ | d)
      · exact ⟨p', a', b', by omega, d2⟩
      · rw [d]; exact ⟨p, a, b, by omega, epr, c, c2⟩
    · rintro ⟨p', a', b', d1, d2, d3⟩
      by_cases e : p' = p
      · rw [e, epr] at d2
        exact Or.inr (g2_pair d2).1.symm
      · exact Or.inl ⟨p', a', b', by omega, d2, d3⟩
theorem g0_stretch (C : gx_C g f_present f_n a_kindOf a_lengthOf a_symbolOf a_word) {s : g0_s} (F : g0_F g s) {post : Int32 → Prop} {i l : Nat} (hl : 1 ≤ l) (hil : i + l ≤ gs_N g)
    (hB : ∀ i' l' t, 1 ≤ l' → l' < l → i' + l' ≤ gs_N g → t < 24 → (bt (a_byLength (i' * 11 + l')) t = true ↔ g0_W g t i' (i' + l')))
    (h : ∀ y, (∀ t, t < 24 → (bt y t = true ↔ g0_W g t i (i + l))) → post y) : wpX_stretchSet post (f_present, f_n, f_keptLength, s.1, f_first, f_waiting, a_kindOf, a_lengthOf, a_symbolOf, a_word, a_kept, a_made, a_other, a_byLength, s.2.1, s.2.2.1, s.2.2.2.1, s.2.2.2.2.1, a_begun, a_fact, a_open, a_waitWhat, a_waitFrom, a_waitTo, a_callers, a_back, a_least) (nI i) (nI l) := by
  have ok := C.1
  have hN := gs_N10 ok
  have hw3 := gs_W3 ok (show i < gs_N g by omega)
  obtain ⟨f1, f2, f3, f4, f5, f6, f7, f8⟩ := id F
  have loop : ∀ x0, (∀ u, u < 24 → (bt x0 u = true ↔ (l = 1 ∧ u = 5 + gs_W g i))) → ∃ n, wX_stretchSet_23 post (nI i) (nI l) f_present f_n f_keptLength s.1 f_first f_waiting a_kindOf a_lengthOf a_symbolOf a_word a_kept a_made a_other a_byLength s.2.1 s.2.2.1 s.2.2.2.1 s.2.2.2.2.1 a_begun a_fact a_open a_waitWhat a_waitFrom a_waitTo a_callers a_back a_least n x0 1 := by
    intro x0 hx0
    refine gl_ex (fun n sp x => wX_stretchSet_23 post (nI i) (nI l) f_present f_n f_keptLength s.1 f_first f_waiting a_kindOf a_lengthOf a_symbolOf a_word a_kept a_made a_other a_byLength s.2.1 s.2.2.1 s.2.2.2.1 s.2.2.2.2.1 a_begun a_fact a_open a_waitWhat a_waitFrom a_waitTo a_callers a_back a_least n x (nI sp))
      (fun sp x => 1 ≤ sp ∧ ∀ u, u < 24 → (bt x u = true ↔ (l = 1 ∧ u = 5 + gs_W g i) ∨ ∃ a b m, g0_pp g (u, a, b) ∧ i < m ∧ m < i + sp ∧ g0_W g a i m ∧ g0_W g b m (i + l))) l 1 x0 hl ⟨Nat.le_refl 1, fun u hu => (hx0 u hu).trans ⟨Or.inl, fun d => d.elim id (fun ⟨_, _, m, _, h1, h2, _⟩ => by omega)⟩⟩ ?_ ?_
    · rintro n x ⟨_, hx⟩
      refine br_t (nI_le (by omega) (by omega)) (g0_closed (fun y hy => h y (fun t ht => ?_)))
      -- what the set says
      have X : ∀ u, u < 24 → (bt y u = true ↔ ∃ t, t < 24 ∧ bt x t = true ∧ bt (s.2.1 t) u = true) := hy
      have xW : ∀ u, u < 24 → bt x u = true → g0_W g u i (i + l) := by
        intro u hu hb
        rcases (hx u hu).mp hb with ⟨d1, d2⟩ | ⟨a, b, m, d1, d2, d3, d4, d5⟩
        · rw [d1, d2]
          exact Or.inl ⟨by omega, Or.inr ⟨by omega, rfl, by omega, by omega⟩⟩
        · exact g0_pp_W ok d1 d4 d5
      constructor
      · intro hb
        obtain ⟨t', d1, d2, d3⟩ := (X t ht).mp hb
        exact f4 t' t d1 ht d3 i (i + l) (by omega) (xW t' d1 d2)
      · intro hw
        refine g0_complete (X := fun u => u < 24 ∧ bt y u = true) ok (show i < i + l by omega) ?_ ?_ ?_ ?_ ?_ hw |>.2
        · rintro u hu ⟨_, hb⟩
          obtain ⟨t', d1, d2, d3⟩ := (X u hu).mp hb
          exact f4 t' u d1 hu d3 i (i + l) (by omega) (xW t' d1 d2)
        · intro e
          have hu : 5 + gs_W g i < 24 := by omega
          exact ⟨hu, (X _ hu).mpr ⟨_, hu, (hx _ hu).mpr (Or.inl ⟨by omega, rfl⟩), f5 _ hu⟩⟩
        · intro w a b hp m h1 h2 h3 h4
          have hu := (g0_pp_b ok hp).1
          exact ⟨hu, (X _ hu).mpr ⟨_, hu, (hx _ hu).mpr (Or.inr ⟨a, b, m, hp, h1, h2, h3, h4⟩), f5 _ hu⟩⟩
        · intro w a b hp
          obtain ⟨bw, ba, bb⟩ := g0_pp_b ok hp
          refine ⟨fun nu hb => ⟨bw, ?_⟩, fun nu ha => ⟨bw, ?_⟩⟩
          · obtain ⟨t', d1, d2, d3⟩ := (X b bb).mp hb.2
            exact (X w bw).mpr ⟨t', d1, d2, f8 b t' w bb d1 bw d3 ((f7 w a b hp).1 nu)⟩
          · obtain ⟨t', d1, d2, d3⟩ := (X a ba).mp ha.2
            exact (X w bw).mpr ⟨t', d1, d2, f8 a t' w ba d1 bw d3 ((f7 w a b hp).2 nu)⟩
        · intro r hr hh hl1 hb
          have hK := gs_K5 ok hr
          have h0 := gs_S8 ok hr (show 0 < 3 by omega)
          obtain ⟨t', d1, d2, d3⟩ := (X _ hb.1).mp hb.2
          exact ⟨by omega, (X _ (by omega)).mpr ⟨t', d1, d2, f8 _ t' _ (by omega) d1 (by omega) d3 (f6 r hr hh hl1)⟩⟩
    · rintro n sp x hsp ⟨h1, hx⟩ go
      · refine br_f (nI_ge (by omega) (by omega)) (g0_puts ok F (by omega) hsp (fun y hy => nm_e (nm_r (nI_1 sp) (go _ ⟨by omega, fun u hu => ?_⟩))))
        rw [b_or, Bool.or_eq_true, hx u hu, hy u hu, or_assoc]
        refine or_congr Iff.rfl ⟨?_, ?_⟩
        · rintro (⟨a, b, m, d1, d2, d3, d4⟩ | ⟨a, b, d1, d2, d3⟩)
          · exact ⟨a, b, m, d1, d2, by omega, d4⟩
          · obtain ⟨bw, ba, bb⟩ := g0_pp_b ok d1
            have w1 := (hB i sp a h1 hsp (by omega) ba).mp d2
            have w2 := (hB (i + sp) (l - sp) b (by omega) (by omega) (by omega) bb).mp d3
            rw [show i + sp + (l - sp) = i + l by omega] at w2
            exact ⟨a, b, i + sp, d1, by omega, by omega, w1, w2⟩
        · rintro ⟨a, b, m, d1, d2, d3, d4, d5⟩
          by_cases e : m = i + sp
          · rw [e] at d4 d5
            obtain ⟨bw, ba, bb⟩ := g0_pp_b ok d1
            refine Or.inr ⟨a, b, d1, (hB i sp a h1 hsp (by omega) ba).mpr d4, (hB (i + sp) (l - sp) b (by omega) (by omega) (by omega) bb).mpr ?_⟩
            rw [show i + sp + (l - sp) = i + l by omega]
            exact d5
          · exact Or.inl ⟨a, b, m, d1, d2, by omega, d4, d5⟩
  refine pk_eq l 1 (fun e => And.intro (vp_in_nI (by omega) (by decide)) ?_) (fun e => loop 0 (fun u hu => ?_))
  · rw [nI_clamp (by omega), C.2.2.2.2.2.2.1 i (by omega), show (5 : Int32) + nI (gs_W g i) = nI (5 + gs_W g i) from nI_add 5 _]
    refine nm_e (loop _ (fun u hu => ?_))
    rw [gb_one (by omega) (by omega), decide_eq_true_eq]
    exact ⟨fun d => ⟨e, d⟩, fun d => d.2⟩
  · rw [b_0]
    exact ⟨fun d => absurd d (by decide), fun d => absurd d.1 e⟩
theorem g0_enter {x : Int32} {post : SX → Prop} {i j : Nat} (hi : i ≤ 10) (hj : j < 32)
    (h : ∀ a, (∀ k i' j', k < 5 → i' ≤ 10 → j' < 32 → (bt (a (k * 11 + i')) j' = true ↔ bt (a_made (k * 11 + i')) j' = true ∨ (i' = i ∧ j' = j ∧ bt x k = true))) → post (f_present, f_n, f_keptLength, f_pairs, f_first, f_waiting, a_kindOf, a_lengthOf, a_symbolOf, a_word, a_kept, a, a_other, a_byLength, a_above, a_firstHalf, a_secondHalf, a_wholeOf, a_begun, a_fact, a_open, a_waitWhat, a_waitFrom, a_waitTo, a_callers, a_back, a_least)) : wpX_enterSet post (f_present, f_n, f_keptLength, f_pairs, f_first, f_waiting, a_kindOf, a_lengthOf, a_symbolOf, a_word, a_kept, a_made, a_other, a_byLength, a_above, a_firstHalf, a_secondHalf, a_wholeOf, a_begun, a_fact, a_open, a_waitWhat, a_waitFrom, a_waitTo, a_callers, a_back, a_least) x (nI i) (nI j) := by
  refine gl_ex (fun n k a => wX_enterSet_3 post x (nI i) (nI j) f_present f_n f_keptLength f_pairs f_first f_waiting n (nI k) a_kindOf a_lengthOf a_symbolOf a_word a_kept a a_other a_byLength a_above a_firstHalf a_secondHalf a_wholeOf a_begun a_fact a_open a_waitWhat a_waitFrom a_waitTo a_callers a_back a_least)
    (fun k a => ∀ k' i' j', k' < 5 → i' ≤ 10 → j' < 32 → (bt (a (k' * 11 + i')) j' = true ↔ bt (a_made (k' * 11 + i')) j' = true ∨ (k' < k ∧ i' = i ∧ j' = j ∧ bt x k' = true))) 5 0 a_made (by omega) (fun k' i' j' _ _ _ => ⟨Or.inl, fun d => d.elim id (fun d => absurd d.1 (by omega))⟩) ?_ ?_
  · intro n a y
    refine br_t (nI_le (a := 5) (by omega) (by omega)) (h a (fun k i' j' hk hi' hj' => (y k i' j' hk hi' hj').trans (or_congr Iff.rfl ⟨fun d => d.2, fun d => ⟨hk, d⟩⟩)))
  · intro n k a hk y go
    have hin : vp_in (nI k * 11 + nI i) 55 := by rw [ix_11]; exact vp_in_nI (by omega) (by decide)
    refine br_f (nI_ge (b := 5) (by omega) (by omega)) (And.intro hin (gb_br k (fun c => And.intro hin ?_) (fun c => And.intro hin ?_)))
    · rw [ix_11, nI_clamp (by omega)]
      refine nm_r (gb_upd_id (gb_or0 _)) (nm_r (nI_1 k) (go a (fun k' i' j' h1 h2 h3 => (y k' i' j' h1 h2 h3).trans (or_congr Iff.rfl ⟨fun d => ⟨by omega, d.2⟩, fun d => ⟨?_, d.2⟩⟩))))
      have h4 := d.1
      by_cases e : k' = k
      · rw [e, c] at d; exact absurd d.2.2.2 (by decide)
      · omega
    · rw [ix_11, nI_clamp (by omega)]
      refine nm_e (nm_r (nI_1 k) (go _ (fun k' i' j' h1 h2 h3 => (gx_bup _ _).trans ?_)))
      rw [y k' i' j' h1 h2 h3, gb_one hj h3, decide_eq_true_eq]
      constructor
      · rintro ((d | d) | ⟨e, d⟩)
        · exact Or.inl d
        · exact Or.inr ⟨by omega, d.2⟩
        · have e1 : k' = k := by omega
          have e2 : i' = i := by omega
          rw [e1]
          exact Or.inr ⟨by omega, e2, d, c⟩
      · rintro (d | ⟨d1, d2, d3, d4⟩)
        · exact Or.inl (Or.inl d)
        · by_cases e : k' = k
          · exact Or.inr ⟨by rw [e, d2], d3⟩
          · exact Or.inl (Or.inr ⟨by omega, d2, d3, d4⟩)
end
end
section
/-! engine 0: solveByLengths -/
theorem gb_31 : ∀ k, k < 5 → bt (31 : Int32) k = true := by decide +kernel
section
variable {g : gs_G} {f_present f_n f_keptLength f_pairs f_first f_waiting : Int32} {a_kindOf a_lengthOf a_symbolOf a_word a_kept a_made a_other a_byLength a_above a_firstHalf a_secondHalf a_wholeOf a_begun a_fact a_open a_waitWhat a_waitFrom a_waitTo a_callers a_back a_least : Nat → Int32}
/-- the kinds of a stretch -/
theorem g0_W5 {k i j : Nat} (hk : k < 5) : g0_W g k i j ↔ gs_Der g k i j := by
  constructor
  · intro h
    rcases g0_W8 (by omega) h with c | c
    · exact c.2
    · omega
  · intro h
    exact Or.inl ⟨by omega, Or.inl ⟨hk, h⟩⟩
def g0_bl (g : gs_G) (l i : Nat) (by' : Nat → Int32) : Prop := ∀ i' l' t, 1 ≤ l' → (l' < l ∨ (l' = l ∧ i' < i)) → i' + l' ≤ gs_N g → t < 24 → (bt (by' (i' * 11 + l')) t = true ↔ g0_W g t i' (i' + l'))
def g0_ml (g : gs_G) (l i : Nat) (a : Nat → Int32) : Prop := ∀ k i' j', k < 5 → i' ≤ 10 → j' < 32 → (bt (a (k * 11 + i')) j' = true ↔ gs_Der g k i' j' ∧ (j' - i' < l ∨ (j' - i' = l ∧ i' < i)))
theorem g0_51 (C : gx_C g f_present f_n a_kindOf a_lengthOf a_symbolOf a_word) {s : g0_s} (F : g0_F g s) {post : SX → Prop} {J41 : Int32 → Int32 → Int32 → Int32 → Int32 → Int32 → Int32 → (Nat → Int32) → (Nat → Int32) → (Nat → Int32) → (Nat → Int32) → (Nat → Int32) → (Nat → Int32) → (Nat → Int32) → (Nat → Int32) → (Nat → Int32) → (Nat → Int32) → (Nat → Int32) → (Nat → Int32) → (Nat → Int32) → (Nat → Int32) → (Nat → Int32) → (Nat → Int32) → (Nat → Int32) → (Nat → Int32) → (Nat → Int32) → (Nat → Int32) → (Nat → Int32) → Prop} {l : Nat} (hl : 1 ≤ l) (hlN : l ≤ gs_N g)
    (hB : g0_bl g l 0 a_byLength) (hM : g0_ml g l 0 a_made)
    (hJ : ∀ b a, g0_bl g (l + 1) 0 b → g0_ml g (l + 1) 0 a → J41 (nI (l + 1)) f_present f_n f_keptLength s.1 f_first f_waiting a_kindOf a_lengthOf a_symbolOf a_word a_kept a a_other b s.2.1 s.2.2.1 s.2.2.2.1 s.2.2.2.2.1 a_begun a_fact a_open a_waitWhat a_waitFrom a_waitTo a_callers a_back a_least) :
    ∃ n, wX_solveByLengths_51 post J41 (nI l) n 0 f_present f_n f_keptLength s.1 f_first f_waiting a_kindOf a_lengthOf a_symbolOf a_word a_kept a_made a_other a_byLength s.2.1 s.2.2.1 s.2.2.2.1 s.2.2.2.2.1 a_begun a_fact a_open a_waitWhat a_waitFrom a_waitTo a_callers a_back a_least := by
  have ok := C.1
  have hN := gs_N10 ok
  have eN := C.2.1
  subst eN
  refine gl_ex (fun n i (t : (Nat → Int32) × (Nat → Int32)) => wX_solveByLengths_51 post J41 (nI l) n (nI i) f_present (nI (gs_N g)) f_keptLength s.1 f_first f_waiting a_kindOf a_lengthOf a_symbolOf a_word a_kept t.2 a_other t.1 s.2.1 s.2.2.1 s.2.2.2.1 s.2.2.2.2.1 a_begun a_fact a_open a_waitWhat a_waitFrom a_waitTo a_callers a_back a_least)
    (fun i t => g0_bl g l i t.1 ∧ g0_ml g l i t.2) (gs_N g + 1 - l) 0 (a_byLength, a_made) (by omega) ⟨hB, hM⟩ ?_ ?_
  · rintro n ⟨b, a⟩ ⟨y1, y2⟩
    refine br_t (by rw [nI_add]; exact nI_lt (by omega) (by omega)) (nm_r (nI_1 l) (hJ b a ?_ ?_))
    · intro i' l' t h1 h2 h3 h4
      exact y1 i' l' t h1 (by omega) h3 h4
    · intro k i' j' h1 h2 h3
      refine (y2 k i' j' h1 h2 h3).trans ⟨fun d => ⟨d.1, by omega⟩, fun d => ⟨d.1, ?_⟩⟩
      have rg := gs_Der_rng d.1
      omega
  · rintro n i ⟨b, a⟩ hi ⟨y1, y2⟩ go
    refine br_f (by rw [nI_add]; exact nI_nlt (by omega) (by omega)) (g0_stretch (f_n := nI (gs_N g)) (a_byLength := b) C F hl (by omega) (fun i' l' t h1 h2 h3 h4 => y1 i' l' t h1 (Or.inl h2) h3 h4) (fun y hy => And.intro (by rw [ix_11]; exact vp_in_nI (by omega) (by decide)) ?_))
    rw [ix_11, nI_clamp (by omega), nI_add]
    refine nm_e (g0_enter (by omega) (by omega) (fun a' ha' => nm_r (nI_1 i) (go (_, a') ⟨?_, ?_⟩)))
    · intro i' l' t h1 h2 h3 h4
      by_cases e : i' = i ∧ l' = l
      · rw [e.1, e.2]
        show bt (upd b (i * 11 + l) y (i * 11 + l)) t = true ↔ _
        rw [pk_us]
        exact hy t h4
      · show bt (upd b (i * 11 + l) y (i' * 11 + l')) t = true ↔ _
        rw [pk_un (by omega)]
        exact y1 i' l' t h1 (by omega) h3 h4
    · intro k i' j' h1 h2 h3
      rw [ha' k i' j' h1 h2 h3]
      have hy2 := y2 k i' j' h1 h2 h3
      have hyk : bt y k = true ↔ gs_Der g k i (i + l) := (hy k (by omega)).trans (g0_W5 h1)
      constructor
      · rintro (d | ⟨d1, d2, d3⟩)
        · have d' := hy2.mp d
          exact ⟨d'.1, by omega⟩
        · rw [d1, d2]
          exact ⟨hyk.mp d3, by omega⟩
      · rintro ⟨d1, d2⟩
        have rg := gs_Der_rng d1
        by_cases e : i' = i ∧ j' = i + l
        · rw [e.1, e.2] at d1
          exact Or.inr ⟨e.1, e.2, hyk.mpr d1⟩
        · exact Or.inl (hy2.mpr ⟨d1, by omega⟩)
theorem gx_eng0 (C : gx_C g f_present f_n a_kindOf a_lengthOf a_symbolOf a_word) {post : SX → Prop} (hp : ∀ (s : g0_s) b a, gx_T g a → post (f_present, f_n, f_keptLength, s.1, f_first, f_waiting, a_kindOf, a_lengthOf, a_symbolOf, a_word, a_kept, a, a_other, b, s.2.1, s.2.2.1, s.2.2.2.1, s.2.2.2.2.1, a_begun, a_fact, a_open, a_waitWhat, a_waitFrom, a_waitTo, a_callers, a_back, a_least)) : wpX_solveByLengths post (f_present, f_n, f_keptLength, f_pairs, f_first, f_waiting, a_kindOf, a_lengthOf, a_symbolOf, a_word, a_kept, a_made, a_other, a_byLength, a_above, a_firstHalf, a_secondHalf, a_wholeOf, a_begun, a_fact, a_open, a_waitWhat, a_waitFrom, a_waitTo, a_callers, a_back, a_least) := by
  have ok := C.1
  have hN := gs_N10 ok
  have eN := C.2.1
  subst eN
  refine g0_cut C (fun s F => gx_clear (fun a0 ha0 => gx_empty C (fun x hx => ?_)))
  refine gl_ex (fun n i a => wX_solveByLengths_15 post x n (nI i) f_present (nI (gs_N g)) f_keptLength s.1 f_first f_waiting a_kindOf a_lengthOf a_symbolOf a_word a_kept a a_other a_byLength s.2.1 s.2.2.1 s.2.2.2.1 s.2.2.2.2.1 a_begun a_fact a_open a_waitWhat a_waitFrom a_waitTo a_callers a_back a_least)
    (fun i a => ∀ k i' j', k < 5 → i' ≤ 10 → j' < 32 → (bt (a (k * 11 + i')) j' = true ↔ i' < i ∧ j' = i' ∧ gs_Nul g k)) (gs_N g + 1) 0 a0 (by omega) ?_ ?_ ?_
  · intro k i' j' h1 h2 h3
    rw [ha0 _ (by omega), b_0]
    exact ⟨fun d => absurd d (by decide), fun d => absurd d.1 (by omega)⟩
  · intro n a1 ha1
    refine br_t (nI_lt (by omega) (by omega)) ?_
    refine gl_ex (fun n l (t : (Nat → Int32) × (Nat → Int32)) => wX_solveByLengths_41 post n (nI l) f_present (nI (gs_N g)) f_keptLength s.1 f_first f_waiting a_kindOf a_lengthOf a_symbolOf a_word a_kept t.2 a_other t.1 s.2.1 s.2.2.1 s.2.2.2.1 s.2.2.2.2.1 a_begun a_fact a_open a_waitWhat a_waitFrom a_waitTo a_callers a_back a_least)
      (fun l t => 1 ≤ l ∧ g0_bl g l 0 t.1 ∧ g0_ml g l 0 t.2) (gs_N g + 1) 1 (a_byLength, a1) (by omega) ⟨Nat.le_refl 1, fun i' l' t h1 h2 => absurd h2 (by omega), fun k i' j' h1 h2 h3 => (ha1 k i' j' h1 h2 h3).trans ⟨?_, ?_⟩⟩ ?_ ?_
    · rintro ⟨d1, d2, d3⟩
      rw [d2]
      exact ⟨gs_Nul_Der d3 i' (by omega), by omega⟩
    · rintro ⟨d1, d2⟩
      have rg := gs_Der_rng d1
      have e : j' = i' := by omega
      exact ⟨by omega, e, gs_Der_Nul d1 e.symm⟩
    · rintro n ⟨b, a⟩ ⟨_, y1, y2⟩
      refine br_t (nI_lt (by omega) (by omega)) (hp s b a (fun k i j hk hi hj => (y2 k i j hk (by omega) hj).trans ⟨fun d => d.1, fun d => ⟨d, ?_⟩⟩))
      have rg := gs_Der_rng d
      omega
    · rintro n l ⟨b, a⟩ hl ⟨h1, y1, y2⟩ go
      exact br_f (nI_nlt (by omega) (by omega)) (g0_51 (f_n := nI (gs_N g)) (a_byLength := b) (a_made := a) C F h1 (by omega) y1 y2 (fun b' a' z1 z2 => go (b', a') ⟨by omega, z1, z2⟩))
  · intro n i a hi y go
    refine br_f (nI_nlt (by omega) (by omega)) (g0_enter (by omega) (by omega) (fun a' ha' => nm_r (nI_1 i) (go a' (fun k i' j' h1 h2 h3 => ?_))))
    rw [ha' k i' j' h1 h2 h3, y k i' j' h1 h2 h3, b_and, gb_31 k h1, Bool.and_true, hx k]
    constructor
    · rintro (⟨d1, d2⟩ | ⟨d1, d2, d3⟩)
      · exact ⟨by omega, d2⟩
      · exact ⟨by omega, by omega, d3⟩
    · rintro ⟨d1, d2, d3⟩
      by_cases e : i' = i
      · exact Or.inr ⟨e, by omega, d3⟩
      · exact Or.inl ⟨by omega, d2, d3⟩
end
end
section
/-! solve; stretch and makes on both sides -/
abbrev gv_s : Type := Int32 × Int32 × Int32 × (Nat → Int32) × (Nat → Int32) × (Nat → Int32) × (Nat → Int32) × (Nat → Int32) × (Nat → Int32) × (Nat → Int32) × (Nat → Int32) × (Nat → Int32) × (Nat → Int32) × (Nat → Int32) × (Nat → Int32) × (Nat → Int32) × (Nat → Int32) × Unit
theorem gs_nr5 {x : Int32} (h : x < 0 ∨ 5 ≤ x) {k : Nat} (hk : k < 5) (e : x = nI k) : False := by
  rcases h with h | h
  · rw [e] at h; exact nI_pos (by omega) h
  · rw [e] at h; exact nI_ge (b := 5) hk (by omega) h
/-- what is asked of a stretch is in range -/
def gs_vs (N : Nat) (v1 v2 v3 v4 : Int32) : Prop := ∃ e k i j, e < 5 ∧ k < 5 ∧ i ≤ j ∧ j ≤ N ∧ v1 = nI e ∧ v2 = nI k ∧ v3 = nI i ∧ v4 = nI j
section
variable {g : gs_G} {f_present f_n f_keptLength f_pairs f_first f_waiting : Int32} {a_kindOf a_lengthOf a_symbolOf a_word a_kept a_made a_other a_byLength a_above a_firstHalf a_secondHalf a_wholeOf a_begun a_fact a_open a_waitWhat a_waitFrom a_waitTo a_callers a_back a_least : Nat → Int32}
theorem gx_solve (C : gx_C g f_present f_n a_kindOf a_lengthOf a_symbolOf a_word) {e : Nat} (he : e < 5) {post : SX → Prop} (h : ∀ v : gv_s, gx_T g v.2.2.2.1 → post (f_present, f_n, f_keptLength, v.1, v.2.1, v.2.2.1, a_kindOf, a_lengthOf, a_symbolOf, a_word, a_kept, v.2.2.2.1, a_other, v.2.2.2.2.1, v.2.2.2.2.2.1, v.2.2.2.2.2.2.1, v.2.2.2.2.2.2.2.1, v.2.2.2.2.2.2.2.2.1, v.2.2.2.2.2.2.2.2.2.1, v.2.2.2.2.2.2.2.2.2.2.1, v.2.2.2.2.2.2.2.2.2.2.2.1, v.2.2.2.2.2.2.2.2.2.2.2.2.1, v.2.2.2.2.2.2.2.2.2.2.2.2.2.1, v.2.2.2.2.2.2.2.2.2.2.2.2.2.2.1, v.2.2.2.2.2.2.2.2.2.2.2.2.2.2.2.1, v.2.2.2.2.2.2.2.2.2.2.2.2.2.2.2.2.1, a_least)) : wpX_solve post (f_present, f_n, f_keptLength, f_pairs, f_first, f_waiting, a_kindOf, a_lengthOf, a_symbolOf, a_word, a_kept, a_made, a_other, a_byLength, a_above, a_firstHalf, a_secondHalf, a_wholeOf, a_begun, a_fact, a_open, a_waitWhat, a_waitFrom, a_waitTo, a_callers, a_back, a_least) (nI e) := by
  refine br_f (nI_pos (by omega)) (pk_lt 3 e (fun h3 => ?_) (fun h3 => pk_eq e 0 (fun e0 => ?_) (fun e0 => pk_eq e 1 (fun e1 => ?_) (fun e1 => pk_eq e 2 (fun e2 => ?_) (fun e2 => pk_eq e 3 (fun e3 => ?_) (fun e3 => trivial))))))
  · exact gx_eng4 C (fun fi s ca ba a T => h (f_pairs, nI fi, s.1, a, a_byLength, a_above, a_firstHalf, a_secondHalf, a_wholeOf, a_begun, s.2.1, s.2.2.1, s.2.2.2.1, s.2.2.2.2.1, s.2.2.2.2.2.1, ca, ba, ()) T)
  · exact gx_eng0 C (fun s b a T => h (s.1, f_first, f_waiting, a, b, s.2.1, s.2.2.1, s.2.2.2.1, s.2.2.2.2.1, a_begun, a_fact, a_open, a_waitWhat, a_waitFrom, a_waitTo, a_callers, a_back, ()) T)
  · exact gx_eng1 C (fun b a T => h (f_pairs, f_first, f_waiting, a, a_byLength, a_above, a_firstHalf, a_secondHalf, a_wholeOf, b, a_fact, a_open, a_waitWhat, a_waitFrom, a_waitTo, a_callers, a_back, ()) T)
  · exact gx_eng2 C (fun fi s a T => h (f_pairs, nI fi, s.1, a, a_byLength, a_above, a_firstHalf, a_secondHalf, a_wholeOf, a_begun, s.2.1, s.2.2.1, s.2.2.2.1, s.2.2.2.2.1, s.2.2.2.2.2.1, a_callers, a_back, ()) T)
  · exact gx_eng3 C (fun a T => h (f_pairs, f_first, f_waiting, a, a_byLength, a_above, a_firstHalf, a_secondHalf, a_wholeOf, a_begun, a_fact, a_open, a_waitWhat, a_waitFrom, a_waitTo, a_callers, a_back, ()) T)
theorem gx_engine {x : Int32} {post : Int32 → Prop} (f : (x < 0 ∨ 5 ≤ x) → post 0) (t : ∀ k, k < 5 → x = nI k → post 1) : wpX_isEngine post x := gx_kind f t
theorem gx_stretch (C : gx_C g f_present f_n a_kindOf a_lengthOf a_symbolOf a_word) {v1 v2 v3 v4 : Int32} {post : Int32 → SX → Prop} (h0 : ¬ gs_vs (gs_N g) v1 v2 v3 v4 → post 0 (f_present, f_n, f_keptLength, f_pairs, f_first, f_waiting, a_kindOf, a_lengthOf, a_symbolOf, a_word, a_kept, a_made, a_other, a_byLength, a_above, a_firstHalf, a_secondHalf, a_wholeOf, a_begun, a_fact, a_open, a_waitWhat, a_waitFrom, a_waitTo, a_callers, a_back, a_least))
    (h1 : ∀ e k i j, e < 5 → k < 5 → i ≤ j → j ≤ gs_N g → v1 = nI e → v2 = nI k → v3 = nI i → v4 = nI j → ∀ (v : gv_s) z, gs_tf (gs_Der g k i j) z → post z (f_present, f_n, f_keptLength, v.1, v.2.1, v.2.2.1, a_kindOf, a_lengthOf, a_symbolOf, a_word, a_kept, v.2.2.2.1, a_other, v.2.2.2.2.1, v.2.2.2.2.2.1, v.2.2.2.2.2.2.1, v.2.2.2.2.2.2.2.1, v.2.2.2.2.2.2.2.2.1, v.2.2.2.2.2.2.2.2.2.1, v.2.2.2.2.2.2.2.2.2.2.1, v.2.2.2.2.2.2.2.2.2.2.2.1, v.2.2.2.2.2.2.2.2.2.2.2.2.1, v.2.2.2.2.2.2.2.2.2.2.2.2.2.1, v.2.2.2.2.2.2.2.2.2.2.2.2.2.2.1, v.2.2.2.2.2.2.2.2.2.2.2.2.2.2.2.1, v.2.2.2.2.2.2.2.2.2.2.2.2.2.2.2.2.1, a_least)) : wpX_stretch post (f_present, f_n, f_keptLength, f_pairs, f_first, f_waiting, a_kindOf, a_lengthOf, a_symbolOf, a_word, a_kept, a_made, a_other, a_byLength, a_above, a_firstHalf, a_secondHalf, a_wholeOf, a_begun, a_fact, a_open, a_waitWhat, a_waitFrom, a_waitTo, a_callers, a_back, a_least) v1 v2 v3 v4 := by
  have hN := gs_N10 C.1
  unfold wpX_stretch
  refine gx_engine (fun c => br_t rfl (h0 (fun ⟨e, _, _, _, he, _, _, _, ee, _⟩ => gs_nr5 c he ee))) (fun e he ee => br_f gb_10 ?_)
  refine gx_kind (fun c => br_t rfl (h0 (fun ⟨_, k, _, _, _, hk, _, _, _, ek, _⟩ => gs_nr5 c hk ek))) (fun k hk ek => br_f gb_10 ?_)
  refine br_c (fun c => h0 (fun ⟨_, _, i, j, _, _, hij, hj, _, _, ei, _⟩ => by rw [ei] at c; exact nI_pos (by omega) c)) (fun c3 => ?_)
  obtain ⟨i, hi, ei⟩ := nI_of c3
  refine br_c (fun c => h0 (fun ⟨_, _, i, j, _, _, hij, hj, _, _, ei, ej⟩ => by rw [ei, ej] at c; exact nI_nlt hij (by omega) c)) (fun c4 => ?_)
  have c4' : ¬ v4 < 0 := fun c => c4 (Int32.lt_of_lt_of_le c (by rw [ei]; exact nI_pos' hi))
  obtain ⟨j, hj, ej⟩ := nI_of c4'
  have hij : i ≤ j := by
    rw [ei, ej, nI_ltI hj hi] at c4
    omega
  refine pk_le j (gs_N g) (fun hjN => ?_) (fun hjN => h0 (fun ⟨_, _, _, j', _, _, _, hj', _, _, _, ej'⟩ => ?_)) ej C.2.1
  · rw [ee]
    refine gx_solve C he (fun v T => ?_)
    rw [ek, ei, ej]
    refine And.intro (by rw [ix_11]; exact vp_in_nI (by omega) (by decide)) ?_
    rw [ix_11, nI_clamp (by omega)]
    have t := T k i j hk (by omega) (by omega)
    have H := h1 e k i j he hk hij hjN ee ek ei ej v
    refine gb_br j (fun c => H 0 (gs_tf0 (fun d => ?_))) (fun c => H 1 (gs_tf1 (t.mp c)))
    have d' : bt (v.2.2.2.1 (k * 11 + i)) j = true := t.mpr d
    have c' : bt (v.2.2.2.1 (k * 11 + i)) j = false := c
    rw [c'] at d'
    exact absurd d' (by decide)
  · rw [ej, nI_eq hj (by omega)] at ej'
    omega
theorem gx_makes (C : gx_C g f_present f_n a_kindOf a_lengthOf a_symbolOf a_word) {v1 v2 : Int32} {post : Int32 → SX → Prop} (h0 : ¬ gs_vs (gs_N g) v1 v2 0 (nI (gs_N g)) → post 0 (f_present, f_n, f_keptLength, f_pairs, f_first, f_waiting, a_kindOf, a_lengthOf, a_symbolOf, a_word, a_kept, a_made, a_other, a_byLength, a_above, a_firstHalf, a_secondHalf, a_wholeOf, a_begun, a_fact, a_open, a_waitWhat, a_waitFrom, a_waitTo, a_callers, a_back, a_least))
    (h1 : ∀ e k, e < 5 → k < 5 → v1 = nI e → v2 = nI k → ∀ (v : gv_s) z, gs_tf (gs_Der g k 0 (gs_N g)) z → post z (f_present, f_n, f_keptLength, v.1, v.2.1, v.2.2.1, a_kindOf, a_lengthOf, a_symbolOf, a_word, a_kept, v.2.2.2.1, a_other, v.2.2.2.2.1, v.2.2.2.2.2.1, v.2.2.2.2.2.2.1, v.2.2.2.2.2.2.2.1, v.2.2.2.2.2.2.2.2.1, v.2.2.2.2.2.2.2.2.2.1, v.2.2.2.2.2.2.2.2.2.2.1, v.2.2.2.2.2.2.2.2.2.2.2.1, v.2.2.2.2.2.2.2.2.2.2.2.2.1, v.2.2.2.2.2.2.2.2.2.2.2.2.2.1, v.2.2.2.2.2.2.2.2.2.2.2.2.2.2.1, v.2.2.2.2.2.2.2.2.2.2.2.2.2.2.2.1, v.2.2.2.2.2.2.2.2.2.2.2.2.2.2.2.2.1, a_least)) : wpX_makes post (f_present, f_n, f_keptLength, f_pairs, f_first, f_waiting, a_kindOf, a_lengthOf, a_symbolOf, a_word, a_kept, a_made, a_other, a_byLength, a_above, a_firstHalf, a_secondHalf, a_wholeOf, a_begun, a_fact, a_open, a_waitWhat, a_waitFrom, a_waitTo, a_callers, a_back, a_least) v1 v2 := by
  have hN := gs_N10 C.1
  have eN := C.2.1
  subst eN
  unfold wpX_makes
  refine gx_stretch C (fun hn => And.intro (gb_nar (Or.inl rfl)) (h0 hn)) (fun e k i j he hk hij hj e1 e2 e3 e4 v z hz => And.intro (gs_tf_nar hz) ?_)
  have ei : i = 0 := ((nI_eq (a := 0) (by omega) (by omega)).mp e3).symm
  have ej : j = gs_N g := ((nI_eq (by omega) (by omega)).mp e4).symm
  rw [ei, ej] at hz
  exact h1 e k he hk e1 e2 v z hz
end
section
variable {g : gs_G} {h_size h_many h_grown : Int32} {b_there b_kinds b_lengths b_parts b_word b_list b_made b_least : Nat → Int32}
/-- what the reference holds -/
def gy_C (g : gs_G) (h_size : Int32) (b_there b_kinds b_lengths b_parts b_word : Nat → Int32) : Prop :=
  gs_ok g ∧ h_size = nI (gs_N g) ∧ gy_R g b_there b_kinds b_lengths b_parts ∧ gy_w g b_word
theorem gy_kind {x : Int32} {post : Int32 → Prop} (f : (x < 0 ∨ 5 ≤ x) → post 0) (t : ∀ k, k < 5 → x = nI k → post 1) : wpY_isKind post (h_size, h_many, h_grown, b_there, b_kinds, b_lengths, b_parts, b_word, b_list, b_made, b_least) x := by
  refine br_c (fun h => f (Or.inl h)) (fun h => ?_)
  obtain ⟨k, hk, rfl⟩ := nI_of h
  exact pk_lt 4 k (fun h5 => f (Or.inr (nI_le (a := 5) (by omega) hk))) (fun h5 => t k (by omega) rfl)
theorem gy_engine {x : Int32} {post : Int32 → Prop} (f : (x < 0 ∨ 5 ≤ x) → post 0) (t : ∀ k, k < 5 → x = nI k → post 1) : wpY_engine post (h_size, h_many, h_grown, b_there, b_kinds, b_lengths, b_parts, b_word, b_list, b_made, b_least) x := by
  refine br_c (fun h => f (Or.inl h)) (fun h => ?_)
  obtain ⟨k, hk, rfl⟩ := nI_of h
  exact pk_lt 4 k (fun h5 => f (Or.inr (nI_le (a := 5) (by omega) hk))) (fun h5 => t k (by omega) rfl)
theorem gy_T_cov {k i j : Nat} (T : gy_T g b_made) (hk : k < 5) (hij : i ≤ j) (hj : j ≤ gs_N g) : gs_cov g (gy_M g b_made) k i j ↔ gs_Der g k i j := by
  constructor
  · rintro (⟨_, c⟩ | ⟨c, _⟩)
    · exact (T.2 k i j hk hij hj).mp c.2.2.2
    · omega
  · intro d
    exact Or.inl ⟨hk, hk, hij, hj, (T.2 k i j hk hij hj).mpr d⟩
/-- covers, once the table is full -/
theorem gy_covT (ok : gs_ok g) (w : gy_w g b_list) (T : gy_T g b_made) {k i j : Nat} (hk : k < 5) (hij : i ≤ j) (hj : j ≤ gs_N g) {post : Int32 → Prop} (h : ∀ r, gs_tf (gs_Der g k i j) r → post r) : wpY_covers post (h_size, h_many, h_grown, b_there, b_kinds, b_lengths, b_parts, b_word, b_list, b_made, b_least) (nI k) (nI i) (nI j) :=
  gy_cov ok w T.1 (by omega) hij hj (fun r hr => h r (gs_tf_iff (gy_T_cov T hk hij hj) hr))
theorem gy_stretch (C : gy_C g h_size b_there b_kinds b_lengths b_parts b_word) {v1 v2 v3 v4 : Int32} {post : Int32 → SY → Prop} (h0 : ¬ gs_vs (gs_N g) v1 v2 v3 v4 → post 0 (h_size, h_many, h_grown, b_there, b_kinds, b_lengths, b_parts, b_word, b_list, b_made, b_least))
    (h1 : ∀ e k i j, e < 5 → k < 5 → i ≤ j → j ≤ gs_N g → v1 = nI e → v2 = nI k → v3 = nI i → v4 = nI j → ∀ l b z, gs_tf (gs_Der g k i j) z → post z (h_size, h_size, 0, b_there, b_kinds, b_lengths, b_parts, b_word, l, b, b_least)) : wpY_stretch post (h_size, h_many, h_grown, b_there, b_kinds, b_lengths, b_parts, b_word, b_list, b_made, b_least) v1 v2 v3 v4 := by
  have hN := gs_N10 C.1
  unfold wpY_stretch
  refine gy_engine (fun c => br_t rfl (h0 (fun ⟨e, _, _, _, he, _, _, _, ee, _⟩ => gs_nr5 c he ee))) (fun e he ee => br_f gb_10 ?_)
  refine gy_kind (fun c => br_t rfl (h0 (fun ⟨_, k, _, _, _, hk, _, _, _, ek, _⟩ => gs_nr5 c hk ek))) (fun k hk ek => br_f gb_10 ?_)
  refine br_c (fun c => h0 (fun ⟨_, _, i, j, _, _, hij, hj, _, _, ei, _⟩ => by rw [ei] at c; exact nI_pos (by omega) c)) (fun c3 => ?_)
  obtain ⟨i, hi, ei⟩ := nI_of c3
  refine br_c (fun c => h0 (fun ⟨_, _, i, j, _, _, hij, hj, _, _, ei, ej⟩ => by rw [ei, ej] at c; exact nI_nlt hij (by omega) c)) (fun c4 => ?_)
  have c4' : ¬ v4 < 0 := fun c => c4 (Int32.lt_of_lt_of_le c (by rw [ei]; exact nI_pos' hi))
  obtain ⟨j, hj, ej⟩ := nI_of c4'
  have hij : i ≤ j := by
    rw [ei, ej, nI_ltI hj hi] at c4
    omega
  refine pk_le j (gs_N g) (fun hjN => ?_) (fun hjN => h0 (fun ⟨_, _, _, j', _, _, _, hj', _, _, _, ej'⟩ => ?_)) ej C.2.1
  · refine gy_read C.1 C.2.2.1 C.2.2.2 C.2.1 (fun l b hl T => ?_)
    rw [ek, ei, ej]
    exact gy_covT (b_list := l) (b_made := b) C.1 hl T hk hij hjN (fun z hz => And.intro (gs_tf_nar hz) (h1 e k i j he hk hij hjN ee ek ei ej l b z hz))
  · rw [ej, nI_eq hj (by omega)] at ej'
    omega
end
end
section
/-! agree; longest -/
def gs_V (N i j i' j' : Nat) : Prop := i' ≤ j' ∧ j' ≤ N ∧ (i' < i ∨ (i' = i ∧ j' < j))
def gs_mx (D : Nat → Nat → Prop) (V : Nat → Nat → Prop) (r : Int32) : Prop :=
  (r = -3 ∧ ∀ i j, V i j → ¬ D i j) ∨ (∃ b, b ≤ 10 ∧ r = nI b ∧ (∃ i j, V i j ∧ D i j ∧ j - i = b) ∧ ∀ i j, V i j → D i j → j - i ≤ b)
theorem gs_mx_V {D : Nat → Nat → Prop} {V V' : Nat → Nat → Prop} {r : Int32} (e : ∀ i j, V i j ↔ V' i j) (h : gs_mx D V r) : gs_mx D V' r := by
  rcases h with ⟨h1, h2⟩ | ⟨b, h1, h2, ⟨i, j, h3, h4⟩, h5⟩
  · exact Or.inl ⟨h1, fun i j v => h2 i j ((e i j).mpr v)⟩
  · exact Or.inr ⟨b, h1, h2, ⟨i, j, (e i j).mp h3, h4⟩, fun i j v => h5 i j ((e i j).mpr v)⟩
theorem gs_n3 {n : Nat} (h : n ≤ 10) : ¬ nI n ≤ -3 := by
  exact (by decide +kernel : ∀ n, n ≤ 10 → ¬ nI n ≤ -3) n h
theorem gs_mx_eq {D : Nat → Nat → Prop} {V : Nat → Nat → Prop} {r r' : Int32} (h : gs_mx D V r) (h' : gs_mx D V r') : r' = r := by
  rcases h with ⟨h1, h2⟩ | ⟨b, h1, h2, ⟨i, j, h3, h4, h4'⟩, h5⟩ <;> rcases h' with ⟨k1, k2⟩ | ⟨b', k1, k2, ⟨i', j', k3, k4, k4'⟩, k5⟩
  · rw [h1, k1]
  · exact absurd k4 (h2 i' j' k3)
  · exact absurd h4 (k2 i j h3)
  · have a1 := h5 i' j' k3 k4
    have a2 := k5 i j h3 h4
    rw [h2, k2, show b' = b by omega]
theorem gs_V_s {N i j i' j' : Nat} (hij : i ≤ j) (hj : j ≤ N) : gs_V N i (j + 1) i' j' ↔ gs_V N i j i' j' ∨ (i' = i ∧ j' = j) := by
  unfold gs_V
  omega
theorem gs_mx_no {D : Nat → Nat → Prop} {N i j : Nat} {r : Int32} (h : gs_mx D (gs_V N i j) r) (hij : i ≤ j) (hj : j ≤ N) (hn : ¬ D i j) : gs_mx D (gs_V N i (j + 1)) r := by
  rcases h with ⟨h1, h2⟩ | ⟨b, h1, h2, ⟨i1, j1, h3, h4⟩, h5⟩
  · refine Or.inl ⟨h1, fun i' j' v => ?_⟩
    rcases (gs_V_s hij hj).mp v with v | ⟨e1, e2⟩
    · exact h2 i' j' v
    · rw [e1, e2]; exact hn
  · refine Or.inr ⟨b, h1, h2, ⟨i1, j1, (gs_V_s hij hj).mpr (Or.inl h3), h4⟩, fun i' j' v d => ?_⟩
    rcases (gs_V_s hij hj).mp v with v | ⟨e1, e2⟩
    · exact h5 i' j' v d
    · rw [e1, e2] at d; exact absurd d hn
theorem gs_mx_yes {D : Nat → Nat → Prop} {N i j : Nat} {r : Int32} (h : gs_mx D (gs_V N i j) r) (hij : i ≤ j) (hj : j ≤ N) (hN : N ≤ 10) (hd : D i j) {A B : Prop}
    (keep : gs_mx D (gs_V N i (j + 1)) r → A) (new : gs_mx D (gs_V N i (j + 1)) (nI j - nI i) → B) : (nI j - nI i ≤ r → A) ∧ (¬ nI j - nI i ≤ r → B) := by
  rw [pk_sub hij] at new ⊢
  rcases h with ⟨h1, h2⟩ | ⟨b, h1, h2, ⟨i1, j1, h3, h4⟩, h5⟩
  · rw [h1]
    refine br_f (gs_n3 (by omega)) (new (Or.inr ⟨j - i, by omega, rfl, ⟨i, j, (gs_V_s hij hj).mpr (Or.inr ⟨rfl, rfl⟩), hd, rfl⟩, fun i' j' v d => ?_⟩))
    rcases (gs_V_s hij hj).mp v with v | ⟨e1, e2⟩
    · exact absurd d (h2 i' j' v)
    · omega
  · rw [h2] at keep ⊢
    refine pk_le (j - i) b (fun c => keep (Or.inr ⟨b, h1, rfl, ⟨i1, j1, (gs_V_s hij hj).mpr (Or.inl h3), h4⟩, fun i' j' v d => ?_⟩)) (fun c => new (Or.inr ⟨j - i, by omega, rfl, ⟨i, j, (gs_V_s hij hj).mpr (Or.inr ⟨rfl, rfl⟩), hd, rfl⟩, fun i' j' v d => ?_⟩))
    · rcases (gs_V_s hij hj).mp v with v | ⟨e1, e2⟩
      · exact h5 i' j' v d
      · omega
    · rcases (gs_V_s hij hj).mp v with v | ⟨e1, e2⟩
      · have := h5 i' j' v d
        omega
      · omega
theorem gs_mx_0 {D : Nat → Nat → Prop} {N : Nat} : gs_mx D (gs_V N 0 0) (-3) := by
  refine Or.inl ⟨rfl, fun i j v => ?_⟩
  have := v.2.2
  omega
theorem gs_mx_row {D : Nat → Nat → Prop} {N i : Nat} {r : Int32} (h : gs_mx D (gs_V N i (N + 1)) r) : gs_mx D (gs_V N (i + 1) (i + 1)) r := by
  refine gs_mx_V (fun i' j' => ?_) h
  unfold gs_V
  omega
section
variable {g : gs_G} {f_present f_n f_keptLength f_pairs f_first f_waiting : Int32} {a_kindOf a_lengthOf a_symbolOf a_word a_kept a_made a_other a_byLength a_above a_firstHalf a_secondHalf a_wholeOf a_begun a_fact a_open a_waitWhat a_waitFrom a_waitTo a_callers a_back a_least : Nat → Int32}
theorem gx_agree (C : gx_C g f_present f_n a_kindOf a_lengthOf a_symbolOf a_word) {v1 v2 : Int32} {post : Int32 → SX → Prop} (h0 : ¬ (∃ e f, e < 5 ∧ f < 5 ∧ v1 = nI e ∧ v2 = nI f) → post 0 (f_present, f_n, f_keptLength, f_pairs, f_first, f_waiting, a_kindOf, a_lengthOf, a_symbolOf, a_word, a_kept, a_made, a_other, a_byLength, a_above, a_firstHalf, a_secondHalf, a_wholeOf, a_begun, a_fact, a_open, a_waitWhat, a_waitFrom, a_waitTo, a_callers, a_back, a_least))
    (h1 : (∃ e f, e < 5 ∧ f < 5 ∧ v1 = nI e ∧ v2 = nI f) → ∀ (v : gv_s) o, post 1 (f_present, f_n, f_keptLength, v.1, v.2.1, v.2.2.1, a_kindOf, a_lengthOf, a_symbolOf, a_word, a_kept, v.2.2.2.1, o, v.2.2.2.2.1, v.2.2.2.2.2.1, v.2.2.2.2.2.2.1, v.2.2.2.2.2.2.2.1, v.2.2.2.2.2.2.2.2.1, v.2.2.2.2.2.2.2.2.2.1, v.2.2.2.2.2.2.2.2.2.2.1, v.2.2.2.2.2.2.2.2.2.2.2.1, v.2.2.2.2.2.2.2.2.2.2.2.2.1, v.2.2.2.2.2.2.2.2.2.2.2.2.2.1, v.2.2.2.2.2.2.2.2.2.2.2.2.2.2.1, v.2.2.2.2.2.2.2.2.2.2.2.2.2.2.2.1, v.2.2.2.2.2.2.2.2.2.2.2.2.2.2.2.2.1, a_least)) : wpX_agree post (f_present, f_n, f_keptLength, f_pairs, f_first, f_waiting, a_kindOf, a_lengthOf, a_symbolOf, a_word, a_kept, a_made, a_other, a_byLength, a_above, a_firstHalf, a_secondHalf, a_wholeOf, a_begun, a_fact, a_open, a_waitWhat, a_waitFrom, a_waitTo, a_callers, a_back, a_least) v1 v2 := by
  have hN := gs_N10 C.1
  have eN := C.2.1
  subst eN
  unfold wpX_agree
  refine gx_engine (fun c => br_t rfl (h0 (fun ⟨e, _, he, _, ee, _⟩ => gs_nr5 c he ee))) (fun e he ee => br_f gb_10 ?_)
  refine gx_engine (fun c => br_t rfl (h0 (fun ⟨_, f, _, hf, _, ef⟩ => gs_nr5 c hf ef))) (fun f hf ef => br_f gb_10 ?_)
  have h1' := h1 ⟨e, f, he, hf, ee, ef⟩
  rw [ee]
  refine gx_solve C he (fun v T => ?_)
  refine gl_fill (fun n x o => wX_agree_23 post v2 f_present (nI (gs_N g)) f_keptLength v.1 v.2.1 v.2.2.1 n x a_kindOf a_lengthOf a_symbolOf a_word a_kept v.2.2.2.1 o v.2.2.2.2.1 v.2.2.2.2.2.1 v.2.2.2.2.2.2.1 v.2.2.2.2.2.2.2.1 v.2.2.2.2.2.2.2.2.1 v.2.2.2.2.2.2.2.2.2.1 v.2.2.2.2.2.2.2.2.2.2.1 v.2.2.2.2.2.2.2.2.2.2.2.1 v.2.2.2.2.2.2.2.2.2.2.2.2.1 v.2.2.2.2.2.2.2.2.2.2.2.2.2.1 v.2.2.2.2.2.2.2.2.2.2.2.2.2.2.1 v.2.2.2.2.2.2.2.2.2.2.2.2.2.2.2.1 v.2.2.2.2.2.2.2.2.2.2.2.2.2.2.2.2.1 a_least) 55 v.2.2.2.1 ?_ ?_ a_other
  · intro n o ho
    refine br_t (nI_le (a := 55) (by omega) (by omega)) ?_
    rw [ef]
    refine gx_solve C hf (fun v' T' => ?_)
    have h2 := h1' v' o
    refine gl_ex (fun n k (_ : Unit) => wX_agree_57 post f_present (nI (gs_N g)) f_keptLength v'.1 v'.2.1 v'.2.2.1 a_kindOf a_lengthOf a_symbolOf a_word a_kept v'.2.2.2.1 o v'.2.2.2.2.1 v'.2.2.2.2.2.1 v'.2.2.2.2.2.2.1 v'.2.2.2.2.2.2.2.1 v'.2.2.2.2.2.2.2.2.1 v'.2.2.2.2.2.2.2.2.2.1 v'.2.2.2.2.2.2.2.2.2.2.1 v'.2.2.2.2.2.2.2.2.2.2.2.1 v'.2.2.2.2.2.2.2.2.2.2.2.2.1 v'.2.2.2.2.2.2.2.2.2.2.2.2.2.1 v'.2.2.2.2.2.2.2.2.2.2.2.2.2.2.1 v'.2.2.2.2.2.2.2.2.2.2.2.2.2.2.2.1 v'.2.2.2.2.2.2.2.2.2.2.2.2.2.2.2.2.1 a_least n 1 (nI k)) (fun _ _ => True) 5 0 () (by omega) trivial (fun n _ _ => br_t (nI_le (a := 5) (by omega) (by omega)) (And.intro (gb_nar (Or.inr rfl)) h2)) ?_
    intro n k _ hk _ go
    refine br_f (nI_ge (b := 5) (by omega) (by omega)) ?_
    refine gl_ex (fun n' i (_ : Unit) => wX_agree_66 post (wX_agree_57 post f_present (nI (gs_N g)) f_keptLength v'.1 v'.2.1 v'.2.2.1 a_kindOf a_lengthOf a_symbolOf a_word a_kept v'.2.2.2.1 o v'.2.2.2.2.1 v'.2.2.2.2.2.1 v'.2.2.2.2.2.2.1 v'.2.2.2.2.2.2.2.1 v'.2.2.2.2.2.2.2.2.1 v'.2.2.2.2.2.2.2.2.2.1 v'.2.2.2.2.2.2.2.2.2.2.1 v'.2.2.2.2.2.2.2.2.2.2.2.1 v'.2.2.2.2.2.2.2.2.2.2.2.2.1 v'.2.2.2.2.2.2.2.2.2.2.2.2.2.1 v'.2.2.2.2.2.2.2.2.2.2.2.2.2.2.1 v'.2.2.2.2.2.2.2.2.2.2.2.2.2.2.2.1 v'.2.2.2.2.2.2.2.2.2.2.2.2.2.2.2.2.1 a_least n) (nI k) f_present (nI (gs_N g)) f_keptLength v'.1 v'.2.1 v'.2.2.1 a_kindOf a_lengthOf a_symbolOf a_word a_kept v'.2.2.2.1 o v'.2.2.2.2.1 v'.2.2.2.2.2.1 v'.2.2.2.2.2.2.1 v'.2.2.2.2.2.2.2.1 v'.2.2.2.2.2.2.2.2.1 v'.2.2.2.2.2.2.2.2.2.1 v'.2.2.2.2.2.2.2.2.2.2.1 v'.2.2.2.2.2.2.2.2.2.2.2.1 v'.2.2.2.2.2.2.2.2.2.2.2.2.1 v'.2.2.2.2.2.2.2.2.2.2.2.2.2.1 v'.2.2.2.2.2.2.2.2.2.2.2.2.2.2.1 v'.2.2.2.2.2.2.2.2.2.2.2.2.2.2.2.1 v'.2.2.2.2.2.2.2.2.2.2.2.2.2.2.2.2.1 a_least n' 1 (nI i)) (fun _ _ => True) (gs_N g + 1) 0 () (by omega) trivial (fun n _ _ => br_t (nI_lt (by omega) (by omega)) (nm_r (nI_1 k) (go () trivial))) ?_
    intro n' i _ hi _ go'
    refine br_f (nI_nlt (by omega) (by omega)) (br_f gb_10 (And.intro (by rw [ix_11]; exact vp_in_nI (by omega) (by decide)) (And.intro (by rw [ix_11]; exact vp_in_nI (by omega) (by decide)) ?_)))
    rw [ix_11, nI_clamp (by omega)]
    refine br_t ?_ (nm_r (nI_1 i) (go' () trivial))
    rw [ho _ (by omega)]
    apply b_ext
    intro j hj
    have t1 := T k i j hk (by omega) hj
    have t2 := T' k i j hk (by omega) hj
    by_cases d : gs_Der g k i j
    · exact (t1.mpr d).trans (t2.mpr d).symm
    · exact (ts_nt (fun c => d (t1.mp c))).trans (ts_nt (fun c => d (t2.mp c))).symm
  · intro n i o hi hh
    refine br_f (nI_ge (b := 55) (by omega) (by omega)) (And.intro (vp_in_nI hi (by decide)) (And.intro (vp_in_nI hi (by decide)) ?_))
    rw [nI_clamp (by omega)]
    exact nm_e (nm_r (nI_1 i) hh)
theorem gx_longest (C : gx_C g f_present f_n a_kindOf a_lengthOf a_symbolOf a_word) {v1 : Int32} {post : Int32 → SX → Prop} (h0 : (v1 < 0 ∨ 5 ≤ v1) → post (-1) (f_present, f_n, f_keptLength, f_pairs, f_first, f_waiting, a_kindOf, a_lengthOf, a_symbolOf, a_word, a_kept, a_made, a_other, a_byLength, a_above, a_firstHalf, a_secondHalf, a_wholeOf, a_begun, a_fact, a_open, a_waitWhat, a_waitFrom, a_waitTo, a_callers, a_back, a_least))
    (h1 : ∀ k, k < 5 → v1 = nI k → ∀ (v : gv_s) r, gs_mx (gs_Der g k) (gs_V (gs_N g) (gs_N g + 1) (gs_N g + 1)) r → post r (f_present, f_n, f_keptLength, v.1, v.2.1, v.2.2.1, a_kindOf, a_lengthOf, a_symbolOf, a_word, a_kept, v.2.2.2.1, a_other, v.2.2.2.2.1, v.2.2.2.2.2.1, v.2.2.2.2.2.2.1, v.2.2.2.2.2.2.2.1, v.2.2.2.2.2.2.2.2.1, v.2.2.2.2.2.2.2.2.2.1, v.2.2.2.2.2.2.2.2.2.2.1, v.2.2.2.2.2.2.2.2.2.2.2.1, v.2.2.2.2.2.2.2.2.2.2.2.2.1, v.2.2.2.2.2.2.2.2.2.2.2.2.2.1, v.2.2.2.2.2.2.2.2.2.2.2.2.2.2.1, v.2.2.2.2.2.2.2.2.2.2.2.2.2.2.2.1, v.2.2.2.2.2.2.2.2.2.2.2.2.2.2.2.2.1, a_least)) : wpX_longest post (f_present, f_n, f_keptLength, f_pairs, f_first, f_waiting, a_kindOf, a_lengthOf, a_symbolOf, a_word, a_kept, a_made, a_other, a_byLength, a_above, a_firstHalf, a_secondHalf, a_wholeOf, a_begun, a_fact, a_open, a_waitWhat, a_waitFrom, a_waitTo, a_callers, a_back, a_least) v1 := by
  have hN := gs_N10 C.1
  have eN := C.2.1
  subst eN
  unfold wpX_longest
  refine gx_kind (fun c => br_t rfl (h0 c)) (fun k hk ek => br_f gb_10 ?_)
  have h1' := h1 k hk ek
  rw [ek]
  refine gx_solve (e := 4) C (by omega) (fun v T => ?_)
  refine gl_ex (fun n i r => wX_longest_19 post (nI k) f_present (nI (gs_N g)) f_keptLength v.1 v.2.1 v.2.2.1 a_kindOf a_lengthOf a_symbolOf a_word a_kept v.2.2.2.1 a_other v.2.2.2.2.1 v.2.2.2.2.2.1 v.2.2.2.2.2.2.1 v.2.2.2.2.2.2.2.1 v.2.2.2.2.2.2.2.2.1 v.2.2.2.2.2.2.2.2.2.1 v.2.2.2.2.2.2.2.2.2.2.1 v.2.2.2.2.2.2.2.2.2.2.2.1 v.2.2.2.2.2.2.2.2.2.2.2.2.1 v.2.2.2.2.2.2.2.2.2.2.2.2.2.1 v.2.2.2.2.2.2.2.2.2.2.2.2.2.2.1 v.2.2.2.2.2.2.2.2.2.2.2.2.2.2.2.1 v.2.2.2.2.2.2.2.2.2.2.2.2.2.2.2.2.1 a_least n r (nI i)) (fun i r => gs_mx (gs_Der g k) (gs_V (gs_N g) i i) r) (gs_N g + 1) 0 (-3) (by omega) gs_mx_0 (fun n r y => br_t (nI_lt (by omega) (by omega)) (h1' v r y)) ?_
  intro n i r hi y go
  refine br_f (nI_nlt (by omega) (by omega)) ?_
  refine gl_ex (fun n' j r => wX_longest_30 post (wX_longest_19 post (nI k) f_present (nI (gs_N g)) f_keptLength v.1 v.2.1 v.2.2.1 a_kindOf a_lengthOf a_symbolOf a_word a_kept v.2.2.2.1 a_other v.2.2.2.2.1 v.2.2.2.2.2.1 v.2.2.2.2.2.2.1 v.2.2.2.2.2.2.2.1 v.2.2.2.2.2.2.2.2.1 v.2.2.2.2.2.2.2.2.2.1 v.2.2.2.2.2.2.2.2.2.2.1 v.2.2.2.2.2.2.2.2.2.2.2.1 v.2.2.2.2.2.2.2.2.2.2.2.2.1 v.2.2.2.2.2.2.2.2.2.2.2.2.2.1 v.2.2.2.2.2.2.2.2.2.2.2.2.2.2.1 v.2.2.2.2.2.2.2.2.2.2.2.2.2.2.2.1 v.2.2.2.2.2.2.2.2.2.2.2.2.2.2.2.2.1 a_least n) (nI k) (nI i) f_present (nI (gs_N g)) f_keptLength v.1 v.2.1 v.2.2.1 a_kindOf a_lengthOf a_symbolOf a_word a_kept v.2.2.2.1 a_other v.2.2.2.2.1 v.2.2.2.2.2.1 v.2.2.2.2.2.2.1 v.2.2.2.2.2.2.2.1 v.2.2.2.2.2.2.2.2.1 v.2.2.2.2.2.2.2.2.2.1 v.2.2.2.2.2.2.2.2.2.2.1 v.2.2.2.2.2.2.2.2.2.2.2.1 v.2.2.2.2.2.2.2.2.2.2.2.2.1 v.2.2.2.2.2.2.2.2.2.2.2.2.2.1 v.2.2.2.2.2.2.2.2.2.2.2.2.2.2.1 v.2.2.2.2.2.2.2.2.2.2.2.2.2.2.2.1 v.2.2.2.2.2.2.2.2.2.2.2.2.2.2.2.2.1 a_least n' r (nI j)) (fun j r => i ≤ j ∧ gs_mx (gs_Der g k) (gs_V (gs_N g) i j) r) (gs_N g + 1) i r (by omega) ⟨Nat.le_refl i, y⟩ (fun n' r y' => br_t (nI_lt (by omega) (by omega)) (nm_r (nI_1 i) (go r (gs_mx_row y'.2)))) ?_
  rintro n' j r hj ⟨hij, y'⟩ go'
  refine br_f (nI_nlt (by omega) (by omega)) (And.intro (by rw [ix_11]; exact vp_in_nI (by omega) (by decide)) ?_)
  rw [ix_11, nI_clamp (by omega)]
  have t := T k i j hk (by omega) (by omega)
  have t' : bt (v.2.2.2.1 (k * 11 + i)) j = true ↔ gs_Der g k i j := t
  refine gb_br j (fun c => br_t rfl (nm_r (nI_1 j) (go' r ⟨by omega, gs_mx_no y' hij (by omega) (fun d => ?_)⟩))) (fun c => br_f gb_10 (gs_mx_yes y' hij (by omega) hN (t.mp c) (fun z => nm_r (nI_1 j) (go' r ⟨by omega, z⟩)) (fun z => nm_e (nm_r (nI_1 j) (go' _ ⟨by omega, z⟩)))))
  have c' : bt (v.2.2.2.1 (k * 11 + i)) j = false := c
  have d' := t'.mpr d
  rw [c'] at d'
  exact absurd d' (by decide)
end
section
variable {g : gs_G} {h_size h_many h_grown : Int32} {b_there b_kinds b_lengths b_parts b_word b_list b_made b_least : Nat → Int32}
theorem gy_longest (C : gy_C g h_size b_there b_kinds b_lengths b_parts b_word) {v1 : Int32} {post : Int32 → SY → Prop} (h0 : (v1 < 0 ∨ 5 ≤ v1) → post (-1) (h_size, h_many, h_grown, b_there, b_kinds, b_lengths, b_parts, b_word, b_list, b_made, b_least))
    (h1 : ∀ k, k < 5 → v1 = nI k → ∀ l b r, gs_mx (gs_Der g k) (gs_V (gs_N g) (gs_N g + 1) (gs_N g + 1)) r → post r (h_size, h_size, 0, b_there, b_kinds, b_lengths, b_parts, b_word, l, b, b_least)) : wpY_longest post (h_size, h_many, h_grown, b_there, b_kinds, b_lengths, b_parts, b_word, b_list, b_made, b_least) v1 := by
  have hN := gs_N10 C.1
  have eN := C.2.1
  subst eN
  unfold wpY_longest
  refine gy_kind (fun c => br_t rfl (h0 c)) (fun k hk ek => br_f gb_10 ?_)
  have h1' := h1 k hk ek
  rw [ek]
  refine gy_read C.1 C.2.2.1 C.2.2.2 C.2.1 (fun l b hl T => ?_)
  refine gl_ex (fun n i r => wY_longest_19 post (nI k) (nI (gs_N g)) (nI (gs_N g)) 0 b_there b_kinds b_lengths b_parts b_word l b b_least n r (nI i)) (fun i r => gs_mx (gs_Der g k) (gs_V (gs_N g) i i) r) (gs_N g + 1) 0 (-3) (by omega) gs_mx_0 (fun n r y => br_t (nI_lt (by omega) (by omega)) (h1' l b r y)) ?_
  intro n i r hi y go
  refine br_f (nI_nlt (by omega) (by omega)) ?_
  refine gl_ex (fun n' j r => wY_longest_30 post (wY_longest_19 post (nI k) (nI (gs_N g)) (nI (gs_N g)) 0 b_there b_kinds b_lengths b_parts b_word l b b_least n) (nI k) (nI i) (nI (gs_N g)) (nI (gs_N g)) 0 b_there b_kinds b_lengths b_parts b_word l b b_least n' r (nI j)) (fun j r => i ≤ j ∧ gs_mx (gs_Der g k) (gs_V (gs_N g) i j) r) (gs_N g + 1) i r (by omega) ⟨Nat.le_refl i, y⟩ (fun n' r y' => br_t (nI_lt (by omega) (by omega)) (nm_r (nI_1 i) (go r (gs_mx_row y'.2)))) ?_
  rintro n' j r hj ⟨hij, y'⟩ go'
  refine br_f (nI_nlt (by omega) (by omega)) (gy_covT (b_list := l) (b_made := b) C.1 hl T hk hij (by omega) (fun z hz => gs_tf_br hz (fun no => nm_r (nI_1 j) (go' r ⟨by omega, gs_mx_no y' hij (by omega) no⟩)) (fun yes => gs_mx_yes y' hij (by omega) hN yes (fun z => nm_r (nI_1 j) (go' r ⟨by omega, z⟩)) (fun z => nm_e (nm_r (nI_1 j) (go' _ ⟨by omega, z⟩))))))
end
end
section
/-! parts; empty -/
def gs_rch (g : gs_G) (k : Nat) : Nat → Nat → Prop
  | 0 => fun j => j = 0
  | t + 1 => fun j => ∃ i, gs_rch g k t i ∧ i < j ∧ gs_Der g k i j
def gs_pt (g : gs_G) (k : Nat) (r : Int32) : Prop :=
  (∃ t, t ≤ gs_N g ∧ r = nI t ∧ gs_rch g k t (gs_N g) ∧ ∀ t', t' < t → ¬ gs_rch g k t' (gs_N g)) ∨ (r = -3 ∧ ∀ t, t ≤ gs_N g → ¬ gs_rch g k t (gs_N g))
theorem gs_pt_eq {g : gs_G} {k : Nat} {r r' : Int32} (h : gs_pt g k r) (h' : gs_pt g k r') : r' = r := by
  rcases h with ⟨t, h1, h2, h3, h4⟩ | ⟨h1, h2⟩ <;> rcases h' with ⟨t', k1, k2, k3, k4⟩ | ⟨k1, k2⟩
  · have a1 : ¬ t' < t := fun c => h4 t' c k3
    have a2 : ¬ t < t' := fun c => k4 t c h3
    rw [h2, k2, show t' = t by omega]
  · exact absurd h3 (k2 t h1)
  · exact absurd k3 (h2 t' k1)
  · rw [h1, k1]
theorem gb_1i : ∀ i, i < 32 → (bt (1 : Int32) i = decide (i = 0)) := by decide +kernel
section
variable {g : gs_G} {f_present f_n f_keptLength f_pairs f_first f_waiting : Int32} {a_kindOf a_lengthOf a_symbolOf a_word a_kept a_made a_other a_byLength a_above a_firstHalf a_secondHalf a_wholeOf a_begun a_fact a_open a_waitWhat a_waitFrom a_waitTo a_callers a_back a_least : Nat → Int32}
theorem gx_parts (C : gx_C g f_present f_n a_kindOf a_lengthOf a_symbolOf a_word) {v1 : Int32} {post : Int32 → SX → Prop} (h0 : (v1 < 0 ∨ 5 ≤ v1) → post (-1) (f_present, f_n, f_keptLength, f_pairs, f_first, f_waiting, a_kindOf, a_lengthOf, a_symbolOf, a_word, a_kept, a_made, a_other, a_byLength, a_above, a_firstHalf, a_secondHalf, a_wholeOf, a_begun, a_fact, a_open, a_waitWhat, a_waitFrom, a_waitTo, a_callers, a_back, a_least))
    (h1 : ∀ k, k < 5 → v1 = nI k → ∀ (v : gv_s) r, gs_pt g k r → post r (f_present, f_n, f_keptLength, v.1, v.2.1, v.2.2.1, a_kindOf, a_lengthOf, a_symbolOf, a_word, a_kept, v.2.2.2.1, a_other, v.2.2.2.2.1, v.2.2.2.2.2.1, v.2.2.2.2.2.2.1, v.2.2.2.2.2.2.2.1, v.2.2.2.2.2.2.2.2.1, v.2.2.2.2.2.2.2.2.2.1, v.2.2.2.2.2.2.2.2.2.2.1, v.2.2.2.2.2.2.2.2.2.2.2.1, v.2.2.2.2.2.2.2.2.2.2.2.2.1, v.2.2.2.2.2.2.2.2.2.2.2.2.2.1, v.2.2.2.2.2.2.2.2.2.2.2.2.2.2.1, v.2.2.2.2.2.2.2.2.2.2.2.2.2.2.2.1, v.2.2.2.2.2.2.2.2.2.2.2.2.2.2.2.2.1, a_least)) : wpX_parts post (f_present, f_n, f_keptLength, f_pairs, f_first, f_waiting, a_kindOf, a_lengthOf, a_symbolOf, a_word, a_kept, a_made, a_other, a_byLength, a_above, a_firstHalf, a_secondHalf, a_wholeOf, a_begun, a_fact, a_open, a_waitWhat, a_waitFrom, a_waitTo, a_callers, a_back, a_least) v1 := by
  have hN := gs_N10 C.1
  have eN := C.2.1
  subst eN
  unfold wpX_parts
  refine gx_kind (fun c => br_t rfl (h0 c)) (fun k hk ek => br_f gb_10 ?_)
  have h1' := h1 k hk ek
  rw [ek]
  refine gx_solve (e := 2) C (by omega) (fun v T => ?_)
  refine gl_ex (fun n t x => wX_parts_18 post (nI k) f_present (nI (gs_N g)) f_keptLength v.1 v.2.1 v.2.2.1 a_kindOf a_lengthOf a_symbolOf a_word a_kept v.2.2.2.1 a_other v.2.2.2.2.1 v.2.2.2.2.2.1 v.2.2.2.2.2.2.1 v.2.2.2.2.2.2.2.1 v.2.2.2.2.2.2.2.2.1 v.2.2.2.2.2.2.2.2.2.1 v.2.2.2.2.2.2.2.2.2.2.1 v.2.2.2.2.2.2.2.2.2.2.2.1 v.2.2.2.2.2.2.2.2.2.2.2.2.1 v.2.2.2.2.2.2.2.2.2.2.2.2.2.1 v.2.2.2.2.2.2.2.2.2.2.2.2.2.2.1 v.2.2.2.2.2.2.2.2.2.2.2.2.2.2.2.1 v.2.2.2.2.2.2.2.2.2.2.2.2.2.2.2.2.1 a_least n x (nI t)) (fun t x => (∀ j, j < 32 → (bt x j = true ↔ gs_rch g k t j)) ∧ ∀ t', t' < t → ¬ gs_rch g k t' (gs_N g)) (gs_N g + 1) 0 1 (by omega) ⟨fun j hj => by rw [gb_1i j hj, decide_eq_true_eq]; exact Iff.rfl, fun t' h => absurd h (by omega)⟩ ?_ ?_
  · rintro n x ⟨_, y⟩
    exact br_t (nI_lt (by omega) (by omega)) (h1' v (-3) (Or.inr ⟨rfl, fun t ht => y t (by omega)⟩))
  · rintro n t x ht ⟨hx, y⟩ go
    refine br_f (nI_nlt (by omega) (by omega)) (gb_br (gs_N g) (fun c => ?_) (fun c => h1' v (nI t) (Or.inl ⟨t, by omega, rfl, (hx _ (by omega)).mp c, y⟩)))
    have no : ∀ t', t' < t + 1 → ¬ gs_rch g k t' (gs_N g) := by
      intro t' ht'
      by_cases e : t' = t
      · rw [e]
        intro d
        have := (hx _ (by omega)).mpr d
        rw [c] at this
        exact absurd this (by decide)
      · exact y t' (by omega)
    refine gl_ex (fun n' i z => wX_parts_45 post (wX_parts_18 post (nI k) f_present (nI (gs_N g)) f_keptLength v.1 v.2.1 v.2.2.1 a_kindOf a_lengthOf a_symbolOf a_word a_kept v.2.2.2.1 a_other v.2.2.2.2.1 v.2.2.2.2.2.1 v.2.2.2.2.2.2.1 v.2.2.2.2.2.2.2.1 v.2.2.2.2.2.2.2.2.1 v.2.2.2.2.2.2.2.2.2.1 v.2.2.2.2.2.2.2.2.2.2.1 v.2.2.2.2.2.2.2.2.2.2.2.1 v.2.2.2.2.2.2.2.2.2.2.2.2.1 v.2.2.2.2.2.2.2.2.2.2.2.2.2.1 v.2.2.2.2.2.2.2.2.2.2.2.2.2.2.1 v.2.2.2.2.2.2.2.2.2.2.2.2.2.2.2.1 v.2.2.2.2.2.2.2.2.2.2.2.2.2.2.2.2.1 a_least n) (nI k) x (nI t) f_present (nI (gs_N g)) f_keptLength v.1 v.2.1 v.2.2.1 a_kindOf a_lengthOf a_symbolOf a_word a_kept v.2.2.2.1 a_other v.2.2.2.2.1 v.2.2.2.2.2.1 v.2.2.2.2.2.2.1 v.2.2.2.2.2.2.2.1 v.2.2.2.2.2.2.2.2.1 v.2.2.2.2.2.2.2.2.2.1 v.2.2.2.2.2.2.2.2.2.2.1 v.2.2.2.2.2.2.2.2.2.2.2.1 v.2.2.2.2.2.2.2.2.2.2.2.2.1 v.2.2.2.2.2.2.2.2.2.2.2.2.2.1 v.2.2.2.2.2.2.2.2.2.2.2.2.2.2.1 v.2.2.2.2.2.2.2.2.2.2.2.2.2.2.2.1 v.2.2.2.2.2.2.2.2.2.2.2.2.2.2.2.2.1 a_least n' z (nI i))
      (fun i z => ∀ j, j < 32 → (bt z j = true ↔ ∃ i', i' < i ∧ bt x i' = true ∧ gs_Der g k i' j ∧ j ≠ i')) (gs_N g) 0 0 (by omega) ?_ ?_ ?_
    · intro j hj
      rw [b_0]
      exact ⟨fun d => absurd d (by decide), fun ⟨i', d, _⟩ => absurd d (by omega)⟩
    · intro n' z hz
      refine br_t (nI_le (by omega) (by omega)) (nm_r (nI_1 t) (go z ⟨fun j hj => (hz j hj).trans ⟨?_, ?_⟩, no⟩))
      · rintro ⟨i', d1, d2, d3, d4⟩
        have rg := gs_Der_rng d3
        exact ⟨i', (hx i' (by omega)).mp d2, by omega, d3⟩
      · rintro ⟨i', d1, d2, d3⟩
        have rg := gs_Der_rng d3
        exact ⟨i', by omega, (hx i' (by omega)).mpr d1, d3, by omega⟩
    · intro n' i z hi hz go'
      refine br_f (nI_ge (by omega) (by omega)) (gb_br i (fun c2 => ?_) (fun c2 => And.intro (by rw [ix_11]; exact vp_in_nI (by omega) (by decide)) ?_))
      · refine nm_r (gb_or0 z) (nm_r (nI_1 i) (go' z (fun j hj => (hz j hj).trans ⟨?_, ?_⟩)))
        · rintro ⟨i', d1, d2⟩; exact ⟨i', by omega, d2⟩
        · rintro ⟨i', d1, d2, d3⟩
          by_cases e : i' = i
          · rw [e, c2] at d2; exact absurd d2 (by decide)
          · exact ⟨i', by omega, d2, d3⟩
      · rw [ix_11, nI_clamp (by omega)]
        refine nm_e (nm_r (nI_1 i) (go' _ (fun j hj => ?_)))
        have t : bt (v.2.2.2.1 (k * 11 + i)) j = true ↔ gs_Der g k i j := T k i j hk (by omega) hj
        rw [b_or, Bool.or_eq_true, hz j hj, b_and, Bool.and_eq_true, t, gb_not _ hj, gb_one (by omega) hj]
        constructor
        · rintro (⟨i', d1, d2⟩ | ⟨d1, d2⟩)
          · exact ⟨i', by omega, d2⟩
          · refine ⟨i, by omega, c2, d1, fun e => ?_⟩
            rw [decide_eq_true e] at d2
            exact absurd d2 (by decide)
        · rintro ⟨i', d1, d2, d3, d4⟩
          by_cases e : i' = i
          · rw [e] at d3 d4
            refine Or.inr ⟨d3, ?_⟩
            rw [decide_eq_false d4]
            rfl
          · exact Or.inl ⟨i', by omega, d2, d3, d4⟩
end
section
variable {g : gs_G} {h_size h_many h_grown : Int32} {b_there b_kinds b_lengths b_parts b_word b_list b_made b_least : Nat → Int32}
theorem gy_behind (ok : gs_ok g) (hs : h_size = nI (gs_N g)) (w : gy_w g b_list) (T : gy_T g b_made) {k : Nat} (hk : k < 5) {x : Int32} {post : Int32 → Prop}
    (h : ∀ y, (∀ j, j < 32 → (bt y j = true ↔ ∃ i, i < j ∧ bt x i = true ∧ gs_Der g k i j)) → post y) : wpY_behind post (h_size, h_many, h_grown, b_there, b_kinds, b_lengths, b_parts, b_word, b_list, b_made, b_least) (nI k) x := by
  have hN := gs_N10 ok
  subst hs
  refine gl_ex (fun n c y => wY_behind_5 post (nI k) x (nI (gs_N g)) h_many h_grown b_there b_kinds b_lengths b_parts b_word b_list b_made b_least n y (nI c))
    (fun c y => ∀ j, j < 32 → (bt y j = true ↔ ∃ i, 11 * i + j < c ∧ i < j ∧ bt x i = true ∧ gs_Der g k i j)) 121 0 0 (by omega) ?_ ?_ ?_
  · intro j hj
    rw [b_0]
    exact ⟨fun d => absurd d (by decide), fun ⟨i', d, _⟩ => absurd d (by omega)⟩
  · intro n y hy
    refine br_t (nI_le (a := 121) (by omega) (by omega)) (h y (fun j hj => (hy j hj).trans ⟨?_, ?_⟩))
    · rintro ⟨i, d1, d2⟩; exact ⟨i, d2⟩
    · rintro ⟨i, d2, d3, d4⟩
      have rg := gs_Der_rng d4
      exact ⟨i, by omega, d2, d3, d4⟩
  · intro n c y hc hy go
    have e1 : nI c / 11 = nI (c / 11) := pk_div (d := 11) (by omega) (by decide) (by decide)
    have e2 : nI c - nI c / 11 * 11 = nI (c % 11) := pk_rem (d := 11) (by omega) (by decide) (by decide)
    have n11 : ¬ (11 : Int32) = 0 := by decide
    refine br_f (nI_ge (b := 121) (by omega) (by omega)) (And.intro n11 (nm_r e1 (And.intro n11 (nm_r e2 ?_))))
    have keep : (¬ (c / 11 < c % 11 ∧ bt x (c / 11) = true ∧ gs_Der g k (c / 11) (c % 11))) → ∀ j, j < 32 → (bt y j = true ↔ ∃ i, 11 * i + j < c + 1 ∧ i < j ∧ bt x i = true ∧ gs_Der g k i j) := by
      intro no j hj
      refine (hy j hj).trans ⟨?_, ?_⟩
      · rintro ⟨i, d1, d2⟩; exact ⟨i, by omega, d2⟩
      · rintro ⟨i, d1, d2, d3, d4⟩
        have rg := gs_Der_rng d4
        by_cases e : 11 * i + j = c
        · have ei : c / 11 = i := by omega
          have ej : c % 11 = j := by omega
          rw [ei, ej] at no
          exact absurd ⟨d2, d3, d4⟩ no
        · exact ⟨i, by omega, d2, d3, d4⟩
    have j68 : (¬ (c / 11 < c % 11 ∧ bt x (c / 11) = true ∧ gs_Der g k (c / 11) (c % 11))) → wY_behind_68 post (wY_behind_5 post (nI k) x (nI (gs_N g)) h_many h_grown b_there b_kinds b_lengths b_parts b_word b_list b_made b_least n) (nI k) x y (nI c) (nI (c % 11)) (nI (gs_N g)) h_many h_grown b_there b_kinds b_lengths b_parts b_word b_list b_made b_least :=
      fun no => br_t rfl (nm_r (nI_1 c) (go y (keep no)))
    refine pk_le (c % 11) (c / 11) (fun d => j68 (fun z => by omega)) (fun d => ?_)
    refine pk_lt (gs_N g) (c % 11) (fun d2 => j68 (fun z => ?_)) (fun d2 => ?_)
    · have rg := gs_Der_rng z.2.2
      omega
    · refine gb_br1 (c / 11) (fun d3 => ?_) (fun d3 => j68 (fun z => absurd (d3.symm.trans z.2.1) (by decide)))
      refine gy_covT ok w T hk (by omega) (by omega) (fun z hz => gs_tf_br hz (fun no => j68 (fun z => no z.2.2)) (fun yes => br_f gb_10 (nm_e (nm_r (nI_1 c) (go _ (fun j hj => ?_))))))
      rw [b_or, Bool.or_eq_true, hy j hj, gb_one (by omega) hj, decide_eq_true_eq]
      constructor
      · rintro (⟨i, a1, a2⟩ | e)
        · exact ⟨i, by omega, a2⟩
        · rw [e]; exact ⟨c / 11, by omega, d, d3, yes⟩
      · rintro ⟨i, a1, a2, a3, a4⟩
        have rg := gs_Der_rng a4
        by_cases e : 11 * i + j = c
        · exact Or.inr (by omega)
        · exact Or.inl ⟨i, by omega, a2, a3, a4⟩
theorem gy_parts (C : gy_C g h_size b_there b_kinds b_lengths b_parts b_word) {v1 : Int32} {post : Int32 → SY → Prop} (h0 : (v1 < 0 ∨ 5 ≤ v1) → post (-1) (h_size, h_many, h_grown, b_there, b_kinds, b_lengths, b_parts, b_word, b_list, b_made, b_least))
    (h1 : ∀ k, k < 5 → v1 = nI k → ∀ l b r, gs_pt g k r → post r (h_size, h_size, 0, b_there, b_kinds, b_lengths, b_parts, b_word, l, b, b_least)) : wpY_parts post (h_size, h_many, h_grown, b_there, b_kinds, b_lengths, b_parts, b_word, b_list, b_made, b_least) v1 := by
  have hN := gs_N10 C.1
  have eN := C.2.1
  subst eN
  unfold wpY_parts
  refine gy_kind (fun c => br_t rfl (h0 c)) (fun k hk ek => br_f gb_10 ?_)
  have h1' := h1 k hk ek
  rw [ek]
  refine gy_read C.1 C.2.2.1 C.2.2.2 C.2.1 (fun l b hl T => ?_)
  refine gl_ex (fun n t x => wY_parts_18 post (nI k) (nI (gs_N g)) (nI (gs_N g)) 0 b_there b_kinds b_lengths b_parts b_word l b b_least n x (nI t)) (fun t x => (∀ j, j < 32 → (bt x j = true ↔ gs_rch g k t j)) ∧ ∀ t', t' < t → ¬ gs_rch g k t' (gs_N g)) (gs_N g + 1) 0 1 (by omega) ⟨fun j hj => by rw [gb_1i j hj, decide_eq_true_eq]; exact Iff.rfl, fun t' h => absurd h (by omega)⟩ ?_ ?_
  · rintro n x ⟨_, y⟩
    exact br_t (nI_lt (by omega) (by omega)) (h1' l b (-3) (Or.inr ⟨rfl, fun t ht => y t (by omega)⟩))
  · rintro n t x ht ⟨hx, y⟩ go
    refine br_f (nI_nlt (by omega) (by omega)) (gb_br1 (gs_N g) (fun c => h1' l b (nI t) (Or.inl ⟨t, by omega, rfl, (hx _ (by omega)).mp c, y⟩)) (fun c => ?_))
    refine gy_behind (b_list := l) (b_made := b) C.1 rfl hl T hk (fun z hz => nm_r (nI_1 t) (go z ⟨fun j hj => (hz j hj).trans ⟨?_, ?_⟩, fun t' ht' => ?_⟩))
    · rintro ⟨i', d1, d2, d3⟩
      have rg := gs_Der_rng d3
      exact ⟨i', (hx i' (by omega)).mp d2, d1, d3⟩
    · rintro ⟨i', d1, d2, d3⟩
      have rg := gs_Der_rng d3
      exact ⟨i', d2, (hx i' (by omega)).mpr d1, d3⟩
    · by_cases e : t' = t
      · rw [e]
        intro d
        have := (hx _ (by omega)).mpr d
        rw [c] at this
        exact absurd this (by decide)
      · exact y t' (by omega)
/-- the same rules over the empty list -/
def gs_e (g : gs_G) : gs_G := (g.1, g.2.1, g.2.2.1, g.2.2.2.1, g.2.2.2.2.1, 0)
theorem gs_e_ok (ok : gs_ok g) : gs_ok (gs_e g) := ⟨ok.1, ok.2.1, ok.2.2.1, fun i hi => absurd hi (Nat.not_lt_zero i), Nat.zero_le 10⟩
theorem gs_e_R (R : gy_R g b_there b_kinds b_lengths b_parts) : gy_R (gs_e g) b_there b_kinds b_lengths b_parts := R
theorem gy_empty (ok : gs_ok g) (R : gy_R g b_there b_kinds b_lengths b_parts) {post : Int32 → SY → Prop} (h : ∀ x b, (∀ k, bt x k = true ↔ gs_Nul g k) → post x (h_size, 0, 0, b_there, b_kinds, b_lengths, b_parts, b_word, b_list, b, b_least)) : wpY_empty post (h_size, h_many, h_grown, b_there, b_kinds, b_lengths, b_parts, b_word, b_list, b_made, b_least) := by
  have oke := gs_e_ok ok
  have we : gy_w (gs_e g) b_list := fun i hi => absurd hi (Nat.not_lt_zero i)
  unfold wpY_empty
  refine gy_grow (g := gs_e g) (h_many := 0) oke (gs_e_R R) we rfl (fun b T => ?_)
  refine gl_ex (fun n k x => wY_empty_13 post h_size 0 0 b_there b_kinds b_lengths b_parts b_word b_list b b_least n x (nI k)) (fun k x => ∀ j, bt x j = true ↔ j < k ∧ gs_Nul g j) 5 0 0 (by omega) ?_ ?_ ?_
  · intro j
    rw [b_0]
    exact ⟨fun d => absurd d (by decide), fun d => absurd d.1 (by omega)⟩
  · intro n x hx
    refine br_t (nI_le (a := 5) (by omega) (by omega)) (h x b (fun k => (hx k).trans ⟨fun d => d.2, fun d => ⟨gs_Nul_k ok d, d⟩⟩))
  · intro n k x hk hx go
    refine br_f (nI_ge (b := 5) (by omega) (by omega)) (gy_covT (g := gs_e g) (b_made := b) (i := 0) (j := 0) oke we T hk (Nat.le_refl 0) (Nat.zero_le _) (fun z hz => ?_))
    have hz' : gs_tf (gs_Nul g k) z := gs_tf_iff (gs_Nul_iff (g := gs_e g) (Nat.zero_le _)) hz
    refine gs_tf_br hz' (fun no => nm_r (nI_1 k) (go x (fun j => (hx j).trans ⟨fun d => ⟨by omega, d.2⟩, fun d => ⟨?_, d.2⟩⟩))) (fun yes => nm_e (nm_r (nI_1 k) (go _ (fun j => ?_))))
    · have d1 := d.1
      by_cases e : j = k
      · rw [e] at d; exact absurd d.2 no
      · omega
    · rw [b_or, Bool.or_eq_true, hx j]
      by_cases hj : j < 32
      · rw [gb_one (by omega) hj, decide_eq_true_eq]
        constructor
        · rintro (d | d)
          · exact ⟨by omega, d.2⟩
          · rw [d]; exact ⟨by omega, yes⟩
        · rintro ⟨d1, d2⟩
          by_cases e : j = k
          · exact Or.inr e
          · exact Or.inl ⟨by omega, d2⟩
      · rw [b_big (x := (1 : Int32) <<< (nI k &&& 31)) (by omega)]
        constructor
        · rintro (d | d)
          · exact ⟨by omega, d.2⟩
          · exact absurd d (by decide)
        · rintro ⟨d1, d2⟩
          omega
end
end
section
/-! least lengths: findLeast and weigh, able, shortest -/
def gs_sum (g : gs_G) (c : Nat → Nat) (r : Nat) : Nat → Nat
  | 0 => 0
  | d + 1 => gs_sum g c r d + (if gs_S g r d < 5 then c (gs_S g r d) else 1)
def gs_lst (g : gs_G) (c : Nat → Nat) (r : Nat) : Nat → Nat := fun s => if s = gs_K g r ∧ gs_H g r = true ∧ gs_sum g c r (gs_L g r) < c s then gs_sum g c r (gs_L g r) else c s
def gs_lit (g : gs_G) : Nat → Nat → Nat
  | 0 => fun _ => 100000
  | t + 1 => gs_lst g (gs_lit g t) (t % 16)
theorem gs_lst_le {g : gs_G} {c : Nat → Nat} {r : Nat} (h : ∀ s, c s ≤ 100000) (s : Nat) : gs_lst g c r s ≤ 100000 := by
  show (if s = gs_K g r ∧ gs_H g r = true ∧ gs_sum g c r (gs_L g r) < c s then gs_sum g c r (gs_L g r) else c s) ≤ 100000
  have := h s
  split <;> omega
theorem gs_lit_le {g : gs_G} : ∀ t s, gs_lit g t s ≤ 100000 := by
  intro t
  induction t with
  | zero => intro s; exact Nat.le_refl _
  | succ t ih => exact gs_lst_le ih
theorem gs_sum_le {g : gs_G} {c : Nat → Nat} {r : Nat} (h : ∀ s, c s ≤ 100000) : ∀ d, gs_sum g c r d ≤ 100000 * d := by
  intro d
  induction d with
  | zero => exact Nat.le_refl _
  | succ d ih =>
    show gs_sum g c r d + (if gs_S g r d < 5 then c (gs_S g r d) else 1) ≤ 100000 * (d + 1)
    have := h (gs_S g r d)
    split <;> omega
/-- what a step leaves alone, and what it does -/
theorem gs_lst_un {g : gs_G} {c : Nat → Nat} {r s : Nat} (h : s ≠ gs_K g r ∨ gs_H g r = false ∨ c s ≤ gs_sum g c r (gs_L g r)) : gs_lst g c r s = c s := by
  refine if_neg (fun d => ?_)
  rcases h with h | h | h
  · exact h d.1
  · rw [h] at d; exact absurd d.2.1 (by decide)
  · omega
theorem gs_lst_se {g : gs_G} {c : Nat → Nat} {r : Nat} (hh : gs_H g r = true) (h : gs_sum g c r (gs_L g r) < c (gs_K g r)) : gs_lst g c r (gs_K g r) = gs_sum g c r (gs_L g r) := if_pos ⟨rfl, hh, h⟩
def gs_ll (c : Nat → Nat) (a : Nat → Int32) : Prop := ∀ s, s < 5 → a s = nI (c s)
theorem gs_ll_keep {g : gs_G} {c : Nat → Nat} {a : Nat → Int32} {r : Nat} (h : gs_ll c a) (hn : gs_H g r = false ∨ c (gs_K g r) ≤ gs_sum g c r (gs_L g r)) : gs_ll (gs_lst g c r) a := by
  intro s hs
  rw [h s hs, gs_lst_un]
  by_cases e : s = gs_K g r
  · rw [e]; exact Or.inr hn
  · exact Or.inl e
theorem gs_ll_new {g : gs_G} {c : Nat → Nat} {a : Nat → Int32} {r : Nat} (h : gs_ll c a) (hh : gs_H g r = true) (hn : gs_sum g c r (gs_L g r) < c (gs_K g r)) : gs_ll (gs_lst g c r) (upd a (gs_K g r) (nI (gs_sum g c r (gs_L g r)))) := by
  intro s hs
  by_cases e : s = gs_K g r
  · rw [e, pk_us, gs_lst_se hh hn]
  · rw [pk_un e, h s hs, gs_lst_un (Or.inl e)]
section
variable {g : gs_G} {f_present f_n f_keptLength f_pairs f_first f_waiting : Int32} {a_kindOf a_lengthOf a_symbolOf a_word a_kept a_made a_other a_byLength a_above a_firstHalf a_secondHalf a_wholeOf a_begun a_fact a_open a_waitWhat a_waitFrom a_waitTo a_callers a_back a_least : Nat → Int32}
theorem gx_l59 (C : gx_C g f_present f_n a_kindOf a_lengthOf a_symbolOf a_word) {post : SX → Prop} {J33 J40 : Int32 → (Nat → Int32) → (Nat → Int32) → (Nat → Int32) → (Nat → Int32) → (Nat → Int32) → (Nat → Int32) → (Nat → Int32) → (Nat → Int32) → (Nat → Int32) → (Nat → Int32) → (Nat → Int32) → (Nat → Int32) → (Nat → Int32) → (Nat → Int32) → (Nat → Int32) → (Nat → Int32) → (Nat → Int32) → (Nat → Int32) → (Nat → Int32) → (Nat → Int32) → (Nat → Int32) → Prop} {x1 : Int32} {r : Nat} (hr : r < 16) (hh : gs_H g r = true) {c : Nat → Nat} (hc : ∀ s, c s ≤ 100000) (hl : gs_ll c a_least) (h1 : ∀ s, 5 ≤ s → s < 8 → a_least s = 1)
    (hJ : ∀ a, gs_ll (gs_lst g c r) a → (∀ s, 5 ≤ s → s < 8 → a s = 1) → J40 (nI (r + 1)) a_kindOf a_lengthOf a_symbolOf a_word a_kept a_made a_other a_byLength a_above a_firstHalf a_secondHalf a_wholeOf a_begun a_fact a_open a_waitWhat a_waitFrom a_waitTo a_callers a_back a) :
    ∃ n, wX_findLeast_59 post J33 J40 x1 (nI r) f_present f_n f_keptLength f_pairs f_first f_waiting a_kindOf a_lengthOf a_symbolOf a_word a_kept a_made a_other a_byLength a_above a_firstHalf a_secondHalf a_wholeOf a_begun a_fact a_open a_waitWhat a_waitFrom a_waitTo a_callers a_back a_least n 0 0 := by
  have ok := C.1
  have hL := gs_L3 ok hr
  have hK := gs_K5 ok hr
  refine gl_ex (fun n d x => wX_findLeast_59 post J33 J40 x1 (nI r) f_present f_n f_keptLength f_pairs f_first f_waiting a_kindOf a_lengthOf a_symbolOf a_word a_kept a_made a_other a_byLength a_above a_firstHalf a_secondHalf a_wholeOf a_begun a_fact a_open a_waitWhat a_waitFrom a_waitTo a_callers a_back a_least n x (nI d)) (fun d x => x = nI (gs_sum g c r d)) (gs_L g r) 0 0 (by omega) rfl ?_ ?_
  · rintro n x rfl
    have hsum := gs_sum_le (g := g) (r := r) hc (gs_L g r)
    have hck := hc (gs_K g r)
    have hin : vp_in (nI (gs_K g r)) 8 := vp_in_nI (by omega) (by decide)
    have hir : vp_in (nI r) 16 := vp_in_nI hr (by decide)
    refine And.intro hir ?_
    rw [nI_clamp (by omega), C.2.2.2.2.1 _ hr, C.2.2.2.1 _ hr, nI_clamp (by omega), hl _ hK]
    refine br_t (nI_le (by omega) (by omega)) (And.intro hir (And.intro hir (And.intro hin ?_)))
    refine pk_le (c (gs_K g r)) (gs_sum g c r (gs_L g r)) (fun d => And.intro hir (And.intro hin (And.intro hin (nm_r (e' := a_least) (gb_upd_id (hl _ hK).symm) (nm_r (nI_1 r) (hJ a_least (gs_ll_keep hl (Or.inr d)) h1)))))) (fun d => And.intro hin (nm_e (nm_r (nI_1 r) (hJ _ (gs_ll_new hl hh d) (fun s hs hs8 => ?_)))))
    rw [pk_un (by omega)]
    exact h1 s hs hs8
  · rintro n d x hd rfl go
    refine And.intro (vp_in_nI hr (by decide)) ?_
    rw [nI_clamp (by omega), C.2.2.2.2.1 _ hr]
    have h8 := gs_S8 ok hr (show d < 3 by omega)
    refine br_f (nI_ge (by omega) (by omega)) (gx_sym C hr (by omega) (And.intro (vp_in_nI h8 (by decide)) ?_))
    rw [nI_clamp (by omega)]
    refine nm_r (e' := nI (gs_sum g c r (d + 1))) ?_ (nm_r (nI_1 d) (go _ rfl))
    show _ = nI (gs_sum g c r d + (if gs_S g r d < 5 then c (gs_S g r d) else 1))
    by_cases e : gs_S g r d < 5
    · rw [if_pos e, hl _ e, nI_add]
    · rw [if_neg e, h1 _ (by omega) h8, nI_1]
theorem gx_findLeast (C : gx_C g f_present f_n a_kindOf a_lengthOf a_symbolOf a_word) {post : SX → Prop} (h : ∀ a, gs_ll (gs_lit g 96) a → post (f_present, f_n, f_keptLength, f_pairs, f_first, f_waiting, a_kindOf, a_lengthOf, a_symbolOf, a_word, a_kept, a_made, a_other, a_byLength, a_above, a_firstHalf, a_secondHalf, a_wholeOf, a_begun, a_fact, a_open, a_waitWhat, a_waitFrom, a_waitTo, a_callers, a_back, a)) : wpX_findLeast post (f_present, f_n, f_keptLength, f_pairs, f_first, f_waiting, a_kindOf, a_lengthOf, a_symbolOf, a_word, a_kept, a_made, a_other, a_byLength, a_above, a_firstHalf, a_secondHalf, a_wholeOf, a_begun, a_fact, a_open, a_waitWhat, a_waitFrom, a_waitTo, a_callers, a_back, a_least) := by
  have ok := C.1
  refine gl_fill (fun n x a => wX_findLeast_2 post f_present f_n f_keptLength f_pairs f_first f_waiting n x a_kindOf a_lengthOf a_symbolOf a_word a_kept a_made a_other a_byLength a_above a_firstHalf a_secondHalf a_wholeOf a_begun a_fact a_open a_waitWhat a_waitFrom a_waitTo a_callers a_back a) 8 (fun s => if s < 5 then 100000 else 1) ?_ ?_ a_least
  · intro n a ha
    refine br_t (nI_le (a := 8) (by omega) (by omega)) ?_
    refine gl_ex (fun n t a => wX_findLeast_33 post f_present f_n f_keptLength f_pairs f_first f_waiting n (nI t) a_kindOf a_lengthOf a_symbolOf a_word a_kept a_made a_other a_byLength a_above a_firstHalf a_secondHalf a_wholeOf a_begun a_fact a_open a_waitWhat a_waitFrom a_waitTo a_callers a_back a) (fun t a => gs_ll (gs_lit g (16 * t)) a ∧ ∀ s, 5 ≤ s → s < 8 → a s = 1) 6 0 a (by omega) ⟨fun s hs => ?_, fun s hs hs8 => ?_⟩ (fun n a y => br_t (nI_lt (a := 5) (by omega) (by omega)) (h a y.1)) ?_
    · rw [ha s (by omega), if_pos hs]; rfl
    · rw [ha s hs8, if_neg (by omega)]
    · rintro n t a ht ⟨y1, y2⟩ go
      refine br_f (nI_nlt (a := 5) (by omega) (by omega)) ?_
      refine gl_ex (fun n' r a => wX_findLeast_40 post (wX_findLeast_33 post f_present f_n f_keptLength f_pairs f_first f_waiting n) (nI t) f_present f_n f_keptLength f_pairs f_first f_waiting n' (nI r) a_kindOf a_lengthOf a_symbolOf a_word a_kept a_made a_other a_byLength a_above a_firstHalf a_secondHalf a_wholeOf a_begun a_fact a_open a_waitWhat a_waitFrom a_waitTo a_callers a_back a) (fun r a => gs_ll (gs_lit g (16 * t + r)) a ∧ ∀ s, 5 ≤ s → s < 8 → a s = 1) 16 0 a (by omega) ⟨y1, y2⟩ (fun n' a y => br_t (nI_le (a := 16) (by omega) (by omega)) (nm_r (nI_1 t) (go a y))) ?_
      rintro n' r a hr ⟨z1, z2⟩ go'
      have em : (16 * t + r) % 16 = r := by omega
      have es : gs_lit g (16 * t + (r + 1)) = gs_lst g (gs_lit g (16 * t + r)) r := by
        show gs_lst g (gs_lit g (16 * t + r)) ((16 * t + r) % 16) = _
        rw [em]
      refine br_f (nI_ge (b := 16) (by omega) (by omega)) (gx_has C hr (fun c => br_t rfl (nm_r (nI_1 r) (go' a ⟨?_, z2⟩))) (fun c => br_f gb_10 (gx_l59 (a_least := a) C hr c (gs_lit_le _) z1 z2 (fun a' w1 w2 => go' a' ⟨?_, w2⟩))))
      · rw [es]; exact gs_ll_keep z1 (Or.inl c)
      · rw [es]; exact w1
  · intro n i a hi hh
    refine br_f (nI_ge (b := 8) (by omega) (by omega)) (pk_le 5 i (fun c => And.intro (vp_in_nI hi (by decide)) ?_) (fun c => And.intro (vp_in_nI hi (by decide)) ?_))
    · rw [if_neg (by omega)] at hh
      rw [nI_clamp (by omega)]
      exact nm_e (nm_r (nI_1 i) hh)
    · rw [if_pos c] at hh
      rw [nI_clamp (by omega)]
      exact nm_e (nm_r (nI_1 i) hh)
theorem gx_able (C : gx_C g f_present f_n a_kindOf a_lengthOf a_symbolOf a_word) {post : Int32 → SX → Prop} (h : ∀ x a, (∀ j, bt x j = true ↔ j < 5 ∧ gs_lit g 96 j < 100000) → post x (f_present, f_n, f_keptLength, f_pairs, f_first, f_waiting, a_kindOf, a_lengthOf, a_symbolOf, a_word, a_kept, a_made, a_other, a_byLength, a_above, a_firstHalf, a_secondHalf, a_wholeOf, a_begun, a_fact, a_open, a_waitWhat, a_waitFrom, a_waitTo, a_callers, a_back, a)) : wpX_able post (f_present, f_n, f_keptLength, f_pairs, f_first, f_waiting, a_kindOf, a_lengthOf, a_symbolOf, a_word, a_kept, a_made, a_other, a_byLength, a_above, a_firstHalf, a_secondHalf, a_wholeOf, a_begun, a_fact, a_open, a_waitWhat, a_waitFrom, a_waitTo, a_callers, a_back, a_least) := by
  unfold wpX_able
  refine gx_findLeast C (fun a ha => ?_)
  refine gl_ex (fun n k x => wX_able_8 post f_present f_n f_keptLength f_pairs f_first f_waiting a_kindOf a_lengthOf a_symbolOf a_word a_kept a_made a_other a_byLength a_above a_firstHalf a_secondHalf a_wholeOf a_begun a_fact a_open a_waitWhat a_waitFrom a_waitTo a_callers a_back a n x (nI k)) (fun k x => ∀ j, bt x j = true ↔ j < k ∧ gs_lit g 96 j < 100000) 5 0 0 (by omega) ?_ (fun n x y => br_t (nI_le (a := 5) (by omega) (by omega)) (h x a y)) ?_
  · intro j
    rw [b_0]
    exact ⟨fun d => absurd d (by decide), fun d => absurd d.1 (by omega)⟩
  · intro n k x hk y go
    have hle := gs_lit_le (g := g) 96 k
    refine br_f (nI_ge (b := 5) (by omega) (by omega)) (And.intro (vp_in_nI (by omega) (by decide)) ?_)
    rw [nI_clamp (by omega), ha k hk]
    refine pk_le 100000 (gs_lit g 96 k) (fun c => nm_r (gb_or0 x) (nm_r (nI_1 k) (go x (fun j => (y j).trans ⟨fun d => ⟨by omega, d.2⟩, fun d => ⟨?_, d.2⟩⟩)))) (fun c => nm_e (nm_r (nI_1 k) (go _ (fun j => ?_))))
    · have d1 := d.1
      by_cases e : j = k
      · rw [e] at d; omega
      · omega
    · rw [b_or, Bool.or_eq_true, y j]
      by_cases hj : j < 32
      · rw [gb_one (by omega) hj, decide_eq_true_eq]
        constructor
        · rintro (d | d)
          · exact ⟨by omega, d.2⟩
          · rw [d]; exact ⟨by omega, c⟩
        · rintro ⟨d1, d2⟩
          by_cases e : j = k
          · exact Or.inr e
          · exact Or.inl ⟨by omega, d2⟩
      · rw [b_big (x := (1 : Int32) <<< (nI k &&& 31)) (by omega)]
        constructor
        · rintro (d | d)
          · exact ⟨by omega, d.2⟩
          · exact absurd d (by decide)
        · rintro ⟨d1, d2⟩
          omega
def gs_sh (g : gs_G) (k : Nat) : Int32 := if gs_lit g 96 k < 100000 then nI (gs_lit g 96 k) else -3
theorem gx_shortest (C : gx_C g f_present f_n a_kindOf a_lengthOf a_symbolOf a_word) {v1 : Int32} {post : Int32 → SX → Prop} (h0 : (v1 < 0 ∨ 5 ≤ v1) → post (-1) (f_present, f_n, f_keptLength, f_pairs, f_first, f_waiting, a_kindOf, a_lengthOf, a_symbolOf, a_word, a_kept, a_made, a_other, a_byLength, a_above, a_firstHalf, a_secondHalf, a_wholeOf, a_begun, a_fact, a_open, a_waitWhat, a_waitFrom, a_waitTo, a_callers, a_back, a_least))
    (h1 : ∀ k, k < 5 → v1 = nI k → ∀ a, post (gs_sh g k) (f_present, f_n, f_keptLength, f_pairs, f_first, f_waiting, a_kindOf, a_lengthOf, a_symbolOf, a_word, a_kept, a_made, a_other, a_byLength, a_above, a_firstHalf, a_secondHalf, a_wholeOf, a_begun, a_fact, a_open, a_waitWhat, a_waitFrom, a_waitTo, a_callers, a_back, a)) : wpX_shortest post (f_present, f_n, f_keptLength, f_pairs, f_first, f_waiting, a_kindOf, a_lengthOf, a_symbolOf, a_word, a_kept, a_made, a_other, a_byLength, a_above, a_firstHalf, a_secondHalf, a_wholeOf, a_begun, a_fact, a_open, a_waitWhat, a_waitFrom, a_waitTo, a_callers, a_back, a_least) v1 := by
  unfold wpX_shortest
  refine gx_kind (fun c => br_t rfl (h0 c)) (fun k hk ek => br_f gb_10 ?_)
  have h1' := h1 k hk ek
  rw [ek]
  refine gx_findLeast C (fun a ha => And.intro (vp_in_nI (by omega) (by decide)) ?_)
  have hle := gs_lit_le (g := g) 96 k
  rw [nI_clamp (by omega), ha k hk]
  have H := h1' a
  unfold gs_sh at H
  refine pk_le 100000 (gs_lit g 96 k) (fun c => ?_) (fun c => And.intro (vp_in_nI (by omega) (by decide)) ?_)
  · rw [if_neg (by omega)] at H; exact H
  · rw [if_pos c] at H; exact H
end
section
variable {g : gs_G} {h_size h_many h_grown : Int32} {b_there b_kinds b_lengths b_parts b_word b_list b_made b_least : Nat → Int32}
theorem gy_w39 (ok : gs_ok g) (R : gy_R g b_there b_kinds b_lengths b_parts) {post : SY → Prop} {J23 : Int32 → (Nat → Int32) → (Nat → Int32) → (Nat → Int32) → (Nat → Int32) → (Nat → Int32) → (Nat → Int32) → (Nat → Int32) → (Nat → Int32) → Prop} {r t : Nat} (hr : r < 16) {c : Nat → Nat} (hc : ∀ s, c s ≤ 100000) (hl : gs_ll c b_least)
    (hJ : ∀ a, gs_ll (gs_lst g c r) a → J23 (nI (t + 1)) b_there b_kinds b_lengths b_parts b_word b_list b_made a) :
    ∃ n, wY_weigh_39 post J23 (nI t) (nI r) h_size h_many h_grown b_there b_kinds b_lengths b_parts b_word b_list b_made b_least n 0 0 := by
  have hL := gs_L3 ok hr
  have hK := gs_K5 ok hr
  refine gl_ex (fun n p x => wY_weigh_39 post J23 (nI t) (nI r) h_size h_many h_grown b_there b_kinds b_lengths b_parts b_word b_list b_made b_least n x (nI p)) (fun p x => x = nI (gs_sum g c r (if p ≤ gs_L g r then p else gs_L g r))) 3 0 0 (by omega) rfl ?_ ?_
  · rintro n x rfl
    have e3 : (if 3 ≤ gs_L g r then 3 else gs_L g r) = gs_L g r := by split <;> omega
    rw [e3]
    have hsum := gs_sum_le (g := g) (r := r) hc (gs_L g r)
    have hck := hc (gs_K g r)
    have hin : vp_in (nI (gs_K g r)) 5 := vp_in_nI (by omega) (by decide)
    have hir : vp_in (nI r) 16 := vp_in_nI hr (by decide)
    have j135 : (gs_H g r = false ∨ c (gs_K g r) ≤ gs_sum g c r (gs_L g r)) → wY_weigh_135 post J23 (nI t) (nI r) (nI (gs_K g r)) h_size h_many h_grown b_there b_kinds b_lengths b_parts b_word b_list b_made b_least := by
      intro hn
      refine And.intro hir ?_
      rw [nI_clamp (by omega), R.2.1 _ hr, nI_clamp (by omega)]
      exact And.intro hin (And.intro hin (nm_r (e' := b_least) (gb_upd_id rfl) (nm_r (nI_1 t) (hJ b_least (gs_ll_keep hl hn)))))
    refine br_t (nI_le (a := 3) (by omega) (by omega)) (And.intro hir (And.intro hir ?_))
    rw [nI_clamp (by omega), R.1 _ hr, R.2.1 _ hr, nI_clamp (by omega), hl _ hK]
    by_cases hh : gs_H g r = true
    · rw [if_pos hh]
      refine br_f gb_10 (And.intro hir (And.intro hin ?_))
      exact pk_le (c (gs_K g r)) (gs_sum g c r (gs_L g r)) (fun d => j135 (Or.inr d)) (fun d => And.intro hin (nm_e (nm_r (nI_1 t) (hJ _ (gs_ll_new hl hh d)))))
    · rw [if_neg hh]
      exact br_t rfl (j135 (Or.inl (ts_nt hh)))
  · rintro n p x hp rfl go
    have h8 := gs_S8 ok hr hp
    refine br_f (nI_ge (b := 3) (by omega) (by omega)) (gy_sym R hr hp (And.intro (vp_in_nI hr (by decide)) ?_))
    rw [nI_clamp (by omega), R.2.2.1 _ hr]
    refine pk_lt p (gs_L g r) (fun d => ?_) (fun d => ?_)
    · have e1 : (if p ≤ gs_L g r then p else gs_L g r) = p := if_pos (by omega)
      have e2 : (if p + 1 ≤ gs_L g r then p + 1 else gs_L g r) = p + 1 := if_pos (by omega)
      rw [e1]
      refine pk_le 5 (gs_S g r p) (fun s5 => nm_r (e' := nI (gs_sum g c r (p + 1))) ?_ (nm_r (nI_1 p) (go _ (by rw [e2])))) (fun s5 => And.intro (vp_in_nI s5 (by decide)) ?_)
      · rw [nI_1]
        show _ = nI (gs_sum g c r p + (if gs_S g r p < 5 then c (gs_S g r p) else 1))
        rw [if_neg (by omega)]
      · rw [nI_clamp (by omega), hl _ s5]
        refine nm_r (e' := nI (gs_sum g c r (p + 1))) ?_ (nm_r (nI_1 p) (go _ (by rw [e2])))
        rw [nI_add]
        show _ = nI (gs_sum g c r p + (if gs_S g r p < 5 then c (gs_S g r p) else 1))
        rw [if_pos s5]
    · refine nm_r (nI_1 p) (go _ ?_)
      have e1 : (if p ≤ gs_L g r then p else gs_L g r) = gs_L g r := by split <;> omega
      have e2 : (if p + 1 ≤ gs_L g r then p + 1 else gs_L g r) = gs_L g r := by split <;> omega
      rw [e1, e2]
theorem gy_weigh (ok : gs_ok g) (R : gy_R g b_there b_kinds b_lengths b_parts) {post : SY → Prop} (h : ∀ a, gs_ll (gs_lit g 96) a → post (h_size, h_many, h_grown, b_there, b_kinds, b_lengths, b_parts, b_word, b_list, b_made, a)) : wpY_weigh post (h_size, h_many, h_grown, b_there, b_kinds, b_lengths, b_parts, b_word, b_list, b_made, b_least) := by
  refine gl_fill (fun n x a => wY_weigh_2 post h_size h_many h_grown n x b_there b_kinds b_lengths b_parts b_word b_list b_made a) 5 (fun _ => 100000) ?_ ?_ b_least
  · intro n a ha
    refine br_t (nI_le (a := 5) (by omega) (by omega)) ?_
    refine gl_ex (fun n t a => wY_weigh_23 post h_size h_many h_grown n (nI t) b_there b_kinds b_lengths b_parts b_word b_list b_made a) (fun t a => gs_ll (gs_lit g t) a) 96 0 a (by omega) (fun s hs => ha s hs) (fun n a y => br_t (nI_le (a := 96) (by omega) (by omega)) (h a y)) ?_
    intro n t a ht y go
    have er : nI t - nI t / 16 * 16 = nI (t % 16) := pk_rem (d := 16) (by omega) (by decide) (by decide)
    refine br_f (nI_ge (b := 96) (by omega) (by omega)) (And.intro (by decide) (nm_r er (gy_w39 (b_least := a) ok R (by omega) (gs_lit_le t) y (fun a' y' => go a' y'))))
  · intro n i a hi hh
    refine br_f (nI_ge (b := 5) (by omega) (by omega)) (And.intro (vp_in_nI hi (by decide)) ?_)
    rw [nI_clamp (by omega)]
    exact nm_e (nm_r (nI_1 i) hh)
theorem gy_able (ok : gs_ok g) (R : gy_R g b_there b_kinds b_lengths b_parts) {post : Int32 → SY → Prop} (h : ∀ x a, (∀ j, bt x j = true ↔ j < 5 ∧ gs_lit g 96 j < 100000) → post x (h_size, h_many, h_grown, b_there, b_kinds, b_lengths, b_parts, b_word, b_list, b_made, a)) : wpY_able post (h_size, h_many, h_grown, b_there, b_kinds, b_lengths, b_parts, b_word, b_list, b_made, b_least) := by
  unfold wpY_able
  refine gy_weigh ok R (fun a ha => ?_)
  refine gl_ex (fun n k x => wY_able_8 post h_size h_many h_grown b_there b_kinds b_lengths b_parts b_word b_list b_made a n x (nI k)) (fun k x => ∀ j, bt x j = true ↔ j < k ∧ gs_lit g 96 j < 100000) 5 0 0 (by omega) ?_ (fun n x y => br_t (nI_le (a := 5) (by omega) (by omega)) (h x a y)) ?_
  · intro j
    rw [b_0]
    exact ⟨fun d => absurd d (by decide), fun d => absurd d.1 (by omega)⟩
  · intro n k x hk y go
    have hle := gs_lit_le (g := g) 96 k
    refine br_f (nI_ge (b := 5) (by omega) (by omega)) (And.intro (vp_in_nI (by omega) (by decide)) ?_)
    rw [nI_clamp (by omega), ha k hk]
    refine pk_le 100000 (gs_lit g 96 k) (fun c => nm_r (nI_1 k) (go x (fun j => (y j).trans ⟨fun d => ⟨by omega, d.2⟩, fun d => ⟨?_, d.2⟩⟩))) (fun c => nm_e (nm_r (nI_1 k) (go _ (fun j => ?_))))
    · have d1 := d.1
      by_cases e : j = k
      · rw [e] at d; omega
      · omega
    · rw [b_or, Bool.or_eq_true, y j]
      by_cases hj : j < 32
      · rw [gb_one (by omega) hj, decide_eq_true_eq]
        constructor
        · rintro (d | d)
          · exact ⟨by omega, d.2⟩
          · rw [d]; exact ⟨by omega, c⟩
        · rintro ⟨d1, d2⟩
          by_cases e : j = k
          · exact Or.inr e
          · exact Or.inl ⟨by omega, d2⟩
      · rw [b_big (x := (1 : Int32) <<< (nI k &&& 31)) (by omega)]
        constructor
        · rintro (d | d)
          · exact ⟨by omega, d.2⟩
          · exact absurd d (by decide)
        · rintro ⟨d1, d2⟩
          omega
theorem gy_shortest (ok : gs_ok g) (R : gy_R g b_there b_kinds b_lengths b_parts) {v1 : Int32} {post : Int32 → SY → Prop} (h0 : (v1 < 0 ∨ 5 ≤ v1) → ∀ a, post (-1) (h_size, h_many, h_grown, b_there, b_kinds, b_lengths, b_parts, b_word, b_list, b_made, a))
    (h1 : ∀ k, k < 5 → v1 = nI k → ∀ a, post (gs_sh g k) (h_size, h_many, h_grown, b_there, b_kinds, b_lengths, b_parts, b_word, b_list, b_made, a)) : wpY_shortest post (h_size, h_many, h_grown, b_there, b_kinds, b_lengths, b_parts, b_word, b_list, b_made, b_least) v1 := by
  unfold wpY_shortest
  refine gy_weigh ok R (fun a ha => ?_)
  refine gy_kind (fun c => br_t rfl (h0 c a)) (fun k hk ek => br_f gb_10 ?_)
  have H := h1 k hk ek a
  rw [ek]
  refine And.intro (vp_in_nI (by omega) (by decide)) ?_
  have hle := gs_lit_le (g := g) 96 k
  rw [nI_clamp (by omega), ha k hk]
  unfold gs_sh at H
  refine pk_le 100000 (gs_lit g 96 k) (fun c => ?_) (fun c => And.intro (vp_in_nI (by omega) (by decide)) ?_)
  · rw [if_neg (by omega)] at H; exact H
  · rw [if_pos c] at H; exact H
end
end
section
/-! letters that begin -/
def gs_hd (g : gs_G) (x : Int32) (F : Nat → Int32) (r : Nat) : Nat → Int32 × Bool
  | 0 => (0, true)
  | d + 1 => if (gs_hd g x F r d).2 = true then ((gs_hd g x F r d).1 ||| (if gs_S g r d < 5 then F (gs_S g r d) else (1 : Int32) <<< (nI (gs_S g r d - 5) &&& 31)), bt x (gs_S g r d)) else gs_hd g x F r d
theorem gs_hd_t {g : gs_G} {x : Int32} {F : Nat → Int32} {r d : Nat} (h : (gs_hd g x F r d).2 = true) : gs_hd g x F r (d + 1) = ((gs_hd g x F r d).1 ||| (if gs_S g r d < 5 then F (gs_S g r d) else (1 : Int32) <<< (nI (gs_S g r d - 5) &&& 31)), bt x (gs_S g r d)) := if_pos h
theorem gs_hd_f {g : gs_G} {x : Int32} {F : Nat → Int32} {r d : Nat} (h : (gs_hd g x F r d).2 = false) : gs_hd g x F r (d + 1) = gs_hd g x F r d := if_neg (by rw [h]; decide)
theorem gs_hd_end {g : gs_G} {x : Int32} {F : Nat → Int32} {r d : Nat} (h : (gs_hd g x F r d).2 = false) : ∀ e, gs_hd g x F r (d + e) = gs_hd g x F r d := by
  intro e
  induction e with
  | zero => rfl
  | succ e ih =>
    have h1 : (gs_hd g x F r (d + e)).2 = false := by rw [ih]; exact h
    exact (gs_hd_f h1).trans ih
def gs_al (g : gs_G) (ab : Int32) (r : Nat) : Nat → Bool
  | 0 => true
  | d + 1 => gs_al g ab r d && bt ab (gs_S g r d)
theorem gs_al_iff {g : gs_G} {ab : Int32} {r : Nat} : ∀ d, gs_al g ab r d = true ↔ ∀ e, e < d → bt ab (gs_S g r e) = true := by
  intro d
  induction d with
  | zero => exact ⟨fun _ e he => absurd he (by omega), fun _ => rfl⟩
  | succ d ih =>
    show (gs_al g ab r d && bt ab (gs_S g r d)) = true ↔ _
    rw [Bool.and_eq_true, ih]
    constructor
    · rintro ⟨h1, h2⟩ e he
      by_cases e1 : e = d
      · rw [e1]; exact h2
      · exact h1 e (by omega)
    · intro h
      exact ⟨fun e he => h e (by omega), h d (by omega)⟩
def gs_fst (g : gs_G) (ab x : Int32) (F : Nat → Int32) (r : Nat) : Nat → Int32 :=
  if gs_H g r = true ∧ gs_al g ab r (gs_L g r) = true then upd F (gs_K g r) (F (gs_K g r) ||| (gs_hd g x F r (gs_L g r)).1) else F
def gs_fit (g : gs_G) (ab x : Int32) : Nat → Nat → Int32
  | 0 => fun _ => 0
  | t + 1 => gs_fst g ab x (gs_fit g ab x t) (t % 16)
/-! it is full after sixteen rounds -/
def gs_f3 (F : Nat → Int32) : Prop := ∀ k l, 3 ≤ l → bt (F k) l = false
theorem gs_hd3 {g : gs_G} (ok : gs_ok g) {x : Int32} {F : Nat → Int32} {r : Nat} (hr : r < 16) (h : gs_f3 F) : ∀ d, d ≤ 3 → ∀ l, 3 ≤ l → bt (gs_hd g x F r d).1 l = false := by
  intro d
  induction d with
  | zero => intro _ l _; exact b_0 l
  | succ d ih =>
    intro hd l hl
    have h1 := ih (by omega) l hl
    by_cases c : (gs_hd g x F r d).2 = true
    · rw [gs_hd_t c]
      show bt ((gs_hd g x F r d).1 ||| _) l = false
      rw [b_or, h1, Bool.false_or]
      by_cases s5 : gs_S g r d < 5
      · rw [if_pos s5]; exact h _ l hl
      · rw [if_neg s5]
        have h8 := gs_S8 ok hr (show d < 3 by omega)
        by_cases l32 : l < 32
        · rw [gb_one (by omega) l32]
          exact decide_eq_false (by omega)
        · exact b_big (by omega)
    · rw [gs_hd_f (ts_nt c)]; exact h1
theorem gs_fst3 {g : gs_G} (ok : gs_ok g) {ab x : Int32} {F : Nat → Int32} {r : Nat} (hr : r < 16) (h : gs_f3 F) : gs_f3 (gs_fst g ab x F r) := by
  intro k l hl
  unfold gs_fst
  split
  · by_cases e : k = gs_K g r
    · rw [e, pk_us, b_or, h _ l hl, gs_hd3 ok hr h _ (gs_L3 ok hr) l hl]; rfl
    · rw [pk_un e]; exact h k l hl
  · exact h k l hl
theorem gs_fit3 {g : gs_G} (ok : gs_ok g) {ab x : Int32} : ∀ t, gs_f3 (gs_fit g ab x t) := by
  intro t
  induction t with
  | zero => intro k l _; exact b_0 l
  | succ t ih => exact gs_fst3 ok (Nat.mod_lt t (by decide)) ih
def gs_new (F F' : Nat → Int32) : Prop := (∀ k l, bt (F k) l = true → bt (F' k) l = true) ∧ (F' = F ∨ ∃ k l, k < 5 ∧ l < 3 ∧ bt (F k) l = false ∧ bt (F' k) l = true)
theorem gs_new_rf (F : Nat → Int32) : gs_new F F := ⟨fun _ _ h => h, Or.inl rfl⟩
theorem gs_new_tr {F F' F'' : Nat → Int32} (a : gs_new F F') (b : gs_new F' F'') : gs_new F F'' := by
  refine ⟨fun k l h => b.1 k l (a.1 k l h), ?_⟩
  rcases a.2 with e | ⟨k, l, h1, h2, h3, h4⟩
  · rcases b.2 with e' | c
    · exact Or.inl (e'.trans e)
    · rw [e] at c; exact Or.inr c
  · exact Or.inr ⟨k, l, h1, h2, h3, b.1 k l h4⟩
theorem gs_fst_new {g : gs_G} (ok : gs_ok g) {ab x : Int32} {F : Nat → Int32} {r : Nat} (hr : r < 16) (h : gs_f3 F) : gs_new F (gs_fst g ab x F r) := by
  have hK := gs_K5 ok hr
  unfold gs_fst
  split
  · by_cases c : ∀ l, l < 32 → bt (gs_hd g x F r (gs_L g r)).1 l = true → bt (F (gs_K g r)) l = true
    · rw [gb_upd_id (gb_or_sub c)]
      exact gs_new_rf F
    · refine ⟨fun k l hb => (gx_bup _ _).mpr (Or.inl hb), Or.inr ?_⟩
      have c2 : ∃ l, l < 32 ∧ bt (gs_hd g x F r (gs_L g r)).1 l = true ∧ bt (F (gs_K g r)) l = false := by
        apply Classical.byContradiction
        intro hn
        exact c (fun l hl hb => ts_nf (fun hf => hn ⟨l, hl, hb, hf⟩))
      obtain ⟨l, hl, hb, hf⟩ := c2
      refine ⟨gs_K g r, l, hK, ?_, hf, (gx_bup _ _).mpr (Or.inr ⟨rfl, hb⟩)⟩
      apply Classical.byContradiction
      intro hn
      have := gs_hd3 ok hr h (x := x) _ (gs_L3 ok hr) l (by omega)
      rw [hb] at this
      exact absurd this (by decide)
  · exact gs_new_rf F
/-- one round from F -/
def gs_run (g : gs_G) (ab x : Int32) (F : Nat → Int32) : Nat → Nat → Int32
  | 0 => F
  | r + 1 => gs_fst g ab x (gs_run g ab x F r) r
theorem gs_run_fit {g : gs_G} {ab x : Int32} {m : Nat} : ∀ r, r ≤ 16 → gs_fit g ab x (16 * m + r) = gs_run g ab x (gs_fit g ab x (16 * m)) r := by
  intro r
  induction r with
  | zero => intro _; rfl
  | succ r ih =>
    intro hr
    show gs_fst g ab x (gs_fit g ab x (16 * m + r)) ((16 * m + r) % 16) = gs_fst g ab x (gs_run g ab x (gs_fit g ab x (16 * m)) r) r
    rw [ih (by omega), show (16 * m + r) % 16 = r by omega]
theorem gs_round_fit {g : gs_G} {ab x : Int32} (m : Nat) : gs_fit g ab x (16 * (m + 1)) = gs_run g ab x (gs_fit g ab x (16 * m)) 16 := gs_run_fit 16 (Nat.le_refl 16)
theorem gs_fit_new {g : gs_G} (ok : gs_ok g) {ab x : Int32} {t : Nat} : ∀ e, gs_new (gs_fit g ab x t) (gs_fit g ab x (t + e)) := by
  intro e
  induction e with
  | zero => exact gs_new_rf _
  | succ e ih => exact gs_new_tr ih (gs_fst_new ok (Nat.mod_lt _ (by decide)) (gs_fit3 ok _))
theorem gs_fit_stay {g : gs_G} {ab x : Int32} {m : Nat} (h : gs_fit g ab x (16 * (m + 1)) = gs_fit g ab x (16 * m)) : ∀ e, gs_fit g ab x (16 * (m + e)) = gs_fit g ab x (16 * m) := by
  intro e
  induction e with
  | zero => rfl
  | succ e ih =>
    have h1 := gs_round_fit (g := g) (ab := ab) (x := x) (m + e)
    rw [ih, ← gs_round_fit m, h] at h1
    exact h1
def gs_fb (F : Nat → Int32) (t : Nat) : Bool := bt (F (t / 3)) (t % 3)
theorem gs_fit_full {g : gs_G} (ok : gs_ok g) {ab x : Int32} : gs_fit g ab x 320 = gs_fit g ab x 256 := by
  have key : ∀ m, (∃ m', m' < m ∧ gs_fit g ab x (16 * (m' + 1)) = gs_fit g ab x (16 * m')) ∨ m ≤ gs_cn (gs_fb (gs_fit g ab x (16 * m))) 15 := by
    intro m
    induction m with
    | zero => exact Or.inr (Nat.zero_le _)
    | succ m ih =>
      rcases ih with ⟨m', h1, h2⟩ | ih
      · exact Or.inl ⟨m', by omega, h2⟩
      · have h1 : gs_new (gs_fit g ab x (16 * m)) (gs_fit g ab x (16 * m + 16)) := gs_fit_new ok 16
        rw [show 16 * m + 16 = 16 * (m + 1) by omega] at h1
        rcases h1.2 with e | ⟨k, l, hk, hl, h2, h3⟩
        · exact Or.inl ⟨m, by omega, e⟩
        · have e1 : (k * 3 + l) / 3 = k := by omega
          have e2 : (k * 3 + l) % 3 = l := by omega
          have := gs_cn_lt (f := gs_fb (gs_fit g ab x (16 * m))) (h := gs_fb (gs_fit g ab x (16 * (m + 1)))) 15 (fun t _ ht => h1.1 _ _ ht) (k * 3 + l) (by omega) (by
            show bt (gs_fit g ab x (16 * m) ((k * 3 + l) / 3)) ((k * 3 + l) % 3) = false
            rw [e1, e2]; exact h2) (by
            show bt (gs_fit g ab x (16 * (m + 1)) ((k * 3 + l) / 3)) ((k * 3 + l) % 3) = true
            rw [e1, e2]; exact h3)
          exact Or.inr (by omega)
  rcases key 16 with ⟨m, hm, h⟩ | h
  · have s1 := gs_fit_stay h (16 - m)
    have s2 := gs_fit_stay h (20 - m)
    rw [show m + (16 - m) = 16 by omega] at s1
    rw [show m + (20 - m) = 20 by omega] at s2
    exact s2.trans s1.symm
  · have := gs_cn_le (gs_fb (gs_fit g ab x (16 * 16))) 15
    omega
def gs_fl (F : Nat → Int32) (a : Nat → Int32) : Prop := ∀ k, k < 5 → a k = F k
theorem gs_fl_step {g : gs_G} {ab x : Int32} {F a : Nat → Int32} {r : Nat} (h : gs_fl F a) (c : gs_H g r = true ∧ gs_al g ab r (gs_L g r) = true) : gs_fl (gs_fst g ab x F r) (upd a (gs_K g r) (F (gs_K g r) ||| (gs_hd g x F r (gs_L g r)).1)) := by
  intro k hk
  unfold gs_fst
  rw [if_pos c]
  by_cases e : k = gs_K g r
  · rw [e, pk_us, pk_us]
  · rw [pk_un e, pk_un e]; exact h k hk
theorem gs_fl_skip {g : gs_G} {ab x : Int32} {F a : Nat → Int32} {r : Nat} (h : gs_fl F a) (c : ¬ (gs_H g r = true ∧ gs_al g ab r (gs_L g r) = true)) : gs_fl (gs_fst g ab x F r) a := by
  unfold gs_fst
  rw [if_neg c]
  exact h
section
variable {g : gs_G} {f_present f_n f_keptLength f_pairs f_first f_waiting : Int32} {a_kindOf a_lengthOf a_symbolOf a_word a_kept a_made a_other a_byLength a_above a_firstHalf a_secondHalf a_wholeOf a_begun a_fact a_open a_waitWhat a_waitFrom a_waitTo a_callers a_back a_least : Nat → Int32}
theorem gx_firstOf (C : gx_C g f_present f_n a_kindOf a_lengthOf a_symbolOf a_word) {x : Int32} {F : Nat → Int32} (hF : gs_fl F a_least) {r : Nat} (hr : r < 16) {post : Int32 → Prop} (h : post (gs_hd g x F r (gs_L g r)).1) : wpX_firstOf post (f_present, f_n, f_keptLength, f_pairs, f_first, f_waiting, a_kindOf, a_lengthOf, a_symbolOf, a_word, a_kept, a_made, a_other, a_byLength, a_above, a_firstHalf, a_secondHalf, a_wholeOf, a_begun, a_fact, a_open, a_waitWhat, a_waitFrom, a_waitTo, a_callers, a_back, a_least) (nI r) x := by
  have ok := C.1
  have hL := gs_L3 ok hr
  refine gl_ex (fun n d (s : Int32 × Int32) => wX_firstOf_8 post (nI r) x f_present f_n f_keptLength f_pairs f_first f_waiting a_kindOf a_lengthOf a_symbolOf a_word a_kept a_made a_other a_byLength a_above a_firstHalf a_secondHalf a_wholeOf a_begun a_fact a_open a_waitWhat a_waitFrom a_waitTo a_callers a_back a_least n s.1 s.2 (nI d)) (fun d s => s.1 = (gs_hd g x F r d).1 ∧ s.2 = if (gs_hd g x F r d).2 = true then 1 else 0) (gs_L g r) 0 (0, 1) (by omega) ⟨rfl, rfl⟩ ?_ ?_
  · rintro n ⟨y, z⟩ ⟨e1, e2⟩
    have e1' : y = (gs_hd g x F r (gs_L g r)).1 := e1
    refine And.intro (vp_in_nI hr (by decide)) ?_
    rw [nI_clamp (by omega), C.2.2.2.2.1 _ hr]
    refine br_t (nI_le (by omega) (by omega)) ?_
    rw [← e1'] at h
    exact h
  · rintro n d ⟨y, z⟩ hd ⟨e1, e2⟩ go
    have e1' : y = (gs_hd g x F r d).1 := e1
    have e2' : z = if (gs_hd g x F r d).2 = true then 1 else 0 := e2
    have h8 := gs_S8 ok hr (show d < 3 by omega)
    refine And.intro (vp_in_nI hr (by decide)) ?_
    rw [nI_clamp (by omega), C.2.2.2.2.1 _ hr]
    refine br_f (nI_ge (by omega) (by omega)) ?_
    by_cases c : (gs_hd g x F r d).2 = true
    · rw [if_pos c] at e2'
      have hn : ¬ z = 0 := by rw [e2']; decide
      refine br_f hn (gx_sym C hr (by omega) ?_)
      -- the join
      have j56 : ∀ w, w = (if gs_S g r d < 5 then F (gs_S g r d) else (1 : Int32) <<< (nI (gs_S g r d - 5) &&& 31)) → wX_firstOf_56 post (wX_firstOf_8 post (nI r) x f_present f_n f_keptLength f_pairs f_first f_waiting a_kindOf a_lengthOf a_symbolOf a_word a_kept a_made a_other a_byLength a_above a_firstHalf a_secondHalf a_wholeOf a_begun a_fact a_open a_waitWhat a_waitFrom a_waitTo a_callers a_back a_least n) (nI r) x (nI d) (nI (gs_S g r d)) w y f_present f_n f_keptLength f_pairs f_first f_waiting a_kindOf a_lengthOf a_symbolOf a_word a_kept a_made a_other a_byLength a_above a_firstHalf a_secondHalf a_wholeOf a_begun a_fact a_open a_waitWhat a_waitFrom a_waitTo a_callers a_back a_least := by
        intro w ew
        refine nm_e (gb_br (gs_S g r d) (fun c2 => nm_r (nI_1 d) (go (_, 0) ?_)) (fun c2 => nm_r (nI_1 d) (go (_, 1) ?_)))
        · rw [gs_hd_t c]
          refine ⟨by rw [ew, e1'], ?_⟩
          show (0 : Int32) = if bt x (gs_S g r d) = true then 1 else 0
          rw [c2]; rfl
        · rw [gs_hd_t c]
          refine ⟨by rw [ew, e1'], ?_⟩
          show (1 : Int32) = if bt x (gs_S g r d) = true then 1 else 0
          rw [c2]; rfl
      refine pk_le 5 (gs_S g r d) (fun s5 => ?_) (fun s5 => And.intro (vp_in_nI h8 (by decide)) ?_)
      · rw [show nI (gs_S g r d) - 5 = nI (gs_S g r d - 5) from pk_sub (b := 5) s5]
        exact j56 _ (by rw [if_neg (by omega)])
      · rw [nI_clamp (by omega)]
        exact j56 _ (by rw [if_pos s5]; exact hF _ s5)
    · rw [if_neg c] at e2'
      refine br_t e2' ?_
      have := gs_hd_end (ts_nt c) (gs_L g r - d)
      rw [show d + (gs_L g r - d) = gs_L g r by omega] at this
      rw [this, ← e1'] at h
      exact h
theorem gx_first (C : gx_C g f_present f_n a_kindOf a_lengthOf a_symbolOf a_word) {v1 : Int32} {post : Int32 → SX → Prop} (h0 : (v1 < 0 ∨ 5 ≤ v1) → post (-1) (f_present, f_n, f_keptLength, f_pairs, f_first, f_waiting, a_kindOf, a_lengthOf, a_symbolOf, a_word, a_kept, a_made, a_other, a_byLength, a_above, a_firstHalf, a_secondHalf, a_wholeOf, a_begun, a_fact, a_open, a_waitWhat, a_waitFrom, a_waitTo, a_callers, a_back, a_least))
    (h1 : ∀ k, k < 5 → v1 = nI k → ∀ xa xe a, (∀ j, bt xa j = true ↔ j < 5 ∧ gs_lit g 96 j < 100000) → (∀ j, bt xe j = true ↔ gs_Nul g j) → post (gs_fit g (xa ||| 224) xe 256 k) (f_present, f_n, f_keptLength, f_pairs, f_first, f_waiting, a_kindOf, a_lengthOf, a_symbolOf, a_word, a_kept, a_made, a_other, a_byLength, a_above, a_firstHalf, a_secondHalf, a_wholeOf, a_begun, a_fact, a_open, a_waitWhat, a_waitFrom, a_waitTo, a_callers, a_back, a)) : wpX_first post (f_present, f_n, f_keptLength, f_pairs, f_first, f_waiting, a_kindOf, a_lengthOf, a_symbolOf, a_word, a_kept, a_made, a_other, a_byLength, a_above, a_firstHalf, a_secondHalf, a_wholeOf, a_begun, a_fact, a_open, a_waitWhat, a_waitFrom, a_waitTo, a_callers, a_back, a_least) v1 := by
  have ok := C.1
  unfold wpX_first
  refine gx_kind (fun c => br_t rfl (h0 c)) (fun k hk ek => br_f gb_10 ?_)
  have h1' := h1 k hk ek
  rw [ek]
  refine gx_able C (fun xa a0 hxa => nm_e (gx_empty C (fun xe hxe => ?_)))
  refine gl_fill (fun n i a => wX_first_26 post (nI k) (xa ||| 224) xe f_present f_n f_keptLength f_pairs f_first f_waiting n i a_kindOf a_lengthOf a_symbolOf a_word a_kept a_made a_other a_byLength a_above a_firstHalf a_secondHalf a_wholeOf a_begun a_fact a_open a_waitWhat a_waitFrom a_waitTo a_callers a_back a) 5 (fun _ => 0) ?_ ?_ a0
  · intro n a ha
    refine br_t (nI_le (a := 5) (by omega) (by omega)) ?_
    refine gl_ex (fun n m a => wX_first_49 post (nI k) (xa ||| 224) xe f_present f_n f_keptLength f_pairs f_first f_waiting n (nI m) a_kindOf a_lengthOf a_symbolOf a_word a_kept a_made a_other a_byLength a_above a_firstHalf a_secondHalf a_wholeOf a_begun a_fact a_open a_waitWhat a_waitFrom a_waitTo a_callers a_back a) (fun m a => gs_fl (gs_fit g (xa ||| 224) xe (16 * m)) a) 16 0 a (by omega) (fun k hk => ha k hk) ?_ ?_
    · intro n a y
      refine br_t (nI_lt (a := 15) (by omega) (by omega)) (And.intro (vp_in_nI (by omega) (by decide)) ?_)
      rw [nI_clamp (by omega), y k hk]
      exact h1' xa xe a hxa hxe
    · intro n m a hm y go
      refine br_f (nI_nlt (a := 15) (by omega) (by omega)) ?_
      refine gl_ex (fun n' r a => wX_first_59 post (wX_first_49 post (nI k) (xa ||| 224) xe f_present f_n f_keptLength f_pairs f_first f_waiting n) (nI k) (xa ||| 224) xe (nI m) f_present f_n f_keptLength f_pairs f_first f_waiting n' (nI r) a_kindOf a_lengthOf a_symbolOf a_word a_kept a_made a_other a_byLength a_above a_firstHalf a_secondHalf a_wholeOf a_begun a_fact a_open a_waitWhat a_waitFrom a_waitTo a_callers a_back a) (fun r a => gs_fl (gs_fit g (xa ||| 224) xe (16 * m + r)) a) 16 0 a (by omega) y (fun n' a y' => br_t (nI_le (a := 16) (by omega) (by omega)) (nm_r (nI_1 m) (go a y'))) ?_
      intro n' r a hr y' go'
      have hK := gs_K5 ok hr
      have es : gs_fit g (xa ||| 224) xe (16 * m + (r + 1)) = gs_fst g (xa ||| 224) xe (gs_fit g (xa ||| 224) xe (16 * m + r)) r := by
        show gs_fst g (xa ||| 224) xe (gs_fit g (xa ||| 224) xe (16 * m + r)) ((16 * m + r) % 16) = _
        rw [show (16 * m + r) % 16 = r by omega]
      rw [es] at go'
      refine br_f (nI_ge (b := 16) (by omega) (by omega)) (gx_has C hr (fun c => br_t rfl (nm_r (nI_1 r) (go' a (gs_fl_skip y' (fun d => absurd (c.symm.trans d.1) (by decide)))))) (fun c => br_f gb_10 ?_))
      refine gx_all C hr _ (fun z hz => gs_tf_br hz (fun no => nm_r (nI_1 r) (go' a (gs_fl_skip y' (fun d => no ((gs_al_iff _).mp d.2))))) (fun yes => And.intro (vp_in_nI hr (by decide)) ?_))
      rw [nI_clamp (by omega), C.2.2.2.1 _ hr, nI_clamp (by omega), y' _ hK]
      refine And.intro (vp_in_nI (by omega) (by decide)) (gx_firstOf (a_least := a) C y' hr (And.intro (vp_in_nI (by omega) (by decide)) (nm_e (nm_r (nI_1 r) (go' _ (gs_fl_step y' ⟨c, (gs_al_iff _).mpr yes⟩))))))
  · intro n i a hi hh
    refine br_f (nI_ge (b := 5) (by omega) (by omega)) (And.intro (vp_in_nI (by omega) (by decide)) ?_)
    rw [nI_clamp (by omega)]
    exact nm_e (nm_r (nI_1 i) hh)
end
end
section
/-! letters that begin: the reference -/
def gy_fr (F : Nat → Int32) (y : Int32) : Prop := (∀ k l, k < 5 → l < 3 → bt y (3 * k + l) = bt (F k) l) ∧ (∀ j, 15 ≤ j → bt y j = false)
theorem gb_7i : ∀ i, i < 32 → bt (7 : Int32) i = decide (i < 3) := by decide +kernel
theorem ix_m3 (a : Nat) : 3 * nI a = nI (3 * a) := by
  rw [show (3 : Int32) = nI 3 from rfl, pk_mul]
theorem gy_fr_get {F : Nat → Int32} {y : Int32} (h : gy_fr F y) (h3 : gs_f3 F) {k : Nat} (hk : k < 5) : ((y >>> ((3 * nI k) &&& 31)) &&& 7) = F k := by
  apply b_ext
  intro i hi
  rw [b_and, ix_m3, b_sshr (3 * k) (by omega) y hi, gb_7i i hi]
  by_cases c : i < 3
  · rw [if_pos (by omega), h.1 k i hk c, decide_eq_true c, Bool.and_true]
  · rw [decide_eq_false c, Bool.and_false, h3 k i (by omega)]
theorem gy_fr_step {F : Nat → Int32} {y w : Int32} (h : gy_fr F y) (hw : ∀ l, 3 ≤ l → bt w l = false) {K : Nat} (hK : K < 5) : gy_fr (upd F K (F K ||| w)) (y ||| (w <<< ((3 * nI K) &&& 31))) := by
  constructor
  · intro k l hk hl
    rw [b_or, ix_m3, b_shl (3 * K) (by omega) w (by omega), h.1 k l hk hl]
    by_cases e : k = K
    · rw [e, pk_us, b_or, decide_eq_true (by omega), Bool.true_and, show 3 * K + l - 3 * K = l by omega]
    · rw [pk_un e]
      by_cases c : 3 * K ≤ 3 * k + l
      · rw [hw _ (by omega), Bool.and_false, Bool.or_false]
      · rw [decide_eq_false c, Bool.false_and, Bool.or_false]
  · intro j hj
    by_cases c : j < 32
    · rw [b_or, ix_m3, b_shl (3 * K) (by omega) w c, h.2 j hj, hw _ (by omega), Bool.and_false]
      rfl
    · exact b_big (by omega)
section
variable {g : gs_G} {h_size h_many h_grown : Int32} {b_there b_kinds b_lengths b_parts b_word b_list b_made b_least : Nat → Int32}
theorem gy_heads (ok : gs_ok g) (R : gy_R g b_there b_kinds b_lengths b_parts) {x y : Int32} (hx : ∀ s, 5 ≤ s → bt x s = false) {F : Nat → Int32} (hF : gy_fr F y) (h3 : gs_f3 F) {r : Nat} (hr : r < 16) {post : Int32 → Prop} (h : post (gs_hd g x F r (gs_L g r)).1) : wpY_heads post (h_size, h_many, h_grown, b_there, b_kinds, b_lengths, b_parts, b_word, b_list, b_made, b_least) (nI r) x y := by
  have hL := gs_L3 ok hr
  refine gl_ex (fun n d (s : Int32 × Int32) => wY_heads_9 post (nI r) x y h_size h_many h_grown b_there b_kinds b_lengths b_parts b_word b_list b_made b_least n s.1 s.2 (nI d)) (fun d s => s.1 = (gs_hd g x F r d).1 ∧ s.2 = if (gs_hd g x F r d).2 = true then 1 else 0) (gs_L g r) 0 (0, 1) (by omega) ⟨rfl, rfl⟩ ?_ ?_
  · rintro n ⟨u, z⟩ ⟨e1, e2⟩
    have e1' : u = (gs_hd g x F r (gs_L g r)).1 := e1
    refine And.intro (vp_in_nI hr (by decide)) ?_
    rw [nI_clamp (by omega), R.2.2.1 _ hr]
    refine br_t (nI_le (by omega) (by omega)) ?_
    rw [← e1'] at h
    exact h
  · rintro n d ⟨u, z⟩ hd ⟨e1, e2⟩ go
    have e1' : u = (gs_hd g x F r d).1 := e1
    have e2' : z = if (gs_hd g x F r d).2 = true then 1 else 0 := e2
    have h8 := gs_S8 ok hr (show d < 3 by omega)
    refine And.intro (vp_in_nI hr (by decide)) ?_
    rw [nI_clamp (by omega), R.2.2.1 _ hr]
    refine br_f (nI_ge (by omega) (by omega)) (gy_sym R hr (by omega) ?_)
    have j53 : ∀ w, w = (if gs_S g r d < 5 then F (gs_S g r d) else (1 : Int32) <<< (nI (gs_S g r d - 5) &&& 31)) → wY_heads_53 post (wY_heads_9 post (nI r) x y h_size h_many h_grown b_there b_kinds b_lengths b_parts b_word b_list b_made b_least n) (nI r) x y u z (nI d) (nI (gs_S g r d)) w h_size h_many h_grown b_there b_kinds b_lengths b_parts b_word b_list b_made b_least := by
      intro w ew
      by_cases c : (gs_hd g x F r d).2 = true
      · rw [if_pos c] at e2'
        have hn : ¬ z = 0 := by rw [e2']; decide
        refine br_f hn (br_f hn ?_)
        refine pk_le 5 (gs_S g r d) (fun s5 => nm_r (nI_1 d) (go (_, 0) ?_)) (fun s5 => gb_br1 (gs_S g r d) (fun c2 => nm_r (nI_1 d) (go (_, 1) ?_)) (fun c2 => nm_r (nI_1 d) (go (_, 0) ?_)))
        · rw [gs_hd_t c]
          refine ⟨by rw [ew, e1'], ?_⟩
          show (0 : Int32) = if bt x (gs_S g r d) = true then 1 else 0
          rw [hx _ s5]; rfl
        · rw [gs_hd_t c]
          refine ⟨by rw [ew, e1'], ?_⟩
          show (1 : Int32) = if bt x (gs_S g r d) = true then 1 else 0
          rw [c2]; rfl
        · rw [gs_hd_t c]
          refine ⟨by rw [ew, e1'], ?_⟩
          show (0 : Int32) = if bt x (gs_S g r d) = true then 1 else 0
          rw [c2]; rfl
      · rw [if_neg c] at e2'
        refine br_t e2' (br_t e2' (nm_r (nI_1 d) (go (u, 0) ?_)))
        rw [gs_hd_f (ts_nt c)]
        exact ⟨e1', by rw [if_neg c]⟩
    refine pk_le 5 (gs_S g r d) (fun s5 => ?_) (fun s5 => ?_)
    · rw [show nI (gs_S g r d) - 5 = nI (gs_S g r d - 5) from pk_sub (b := 5) s5]
      exact j53 _ (by rw [if_neg (by omega)])
    · rw [gy_fr_get hF h3 s5]
      exact j53 _ (by rw [if_pos s5])
theorem gy_first (ok : gs_ok g) (R : gy_R g b_there b_kinds b_lengths b_parts) {v1 : Int32} {post : Int32 → SY → Prop} (h0 : (v1 < 0 ∨ 5 ≤ v1) → post (-1) (h_size, h_many, h_grown, b_there, b_kinds, b_lengths, b_parts, b_word, b_list, b_made, b_least))
    (h1 : ∀ k, k < 5 → v1 = nI k → ∀ xa xe a b, (∀ j, bt xa j = true ↔ j < 5 ∧ gs_lit g 96 j < 100000) → (∀ j, bt xe j = true ↔ gs_Nul g j) → post (gs_fit g (xa ||| 224) xe 320 k) (h_size, 0, 0, b_there, b_kinds, b_lengths, b_parts, b_word, b_list, b, a)) : wpY_first post (h_size, h_many, h_grown, b_there, b_kinds, b_lengths, b_parts, b_word, b_list, b_made, b_least) v1 := by
  unfold wpY_first
  refine gy_kind (fun c => br_t rfl (h0 c)) (fun k hk ek => br_f gb_10 ?_)
  have h1' := h1 k hk ek
  rw [ek]
  refine gy_able ok R (fun xa a hxa => nm_e (gy_empty ok R (fun xe b hxe => ?_)))
  have hx5 : ∀ s, 5 ≤ s → bt xe s = false := fun s hs => ts_nt (fun d => by
    have := gs_Nul_k ok ((hxe s).mp d)
    omega)
  refine gl_ex (fun n t y => wY_first_30 post (nI k) (xa ||| 224) xe h_size 0 0 b_there b_kinds b_lengths b_parts b_word b_list b a n y (nI t)) (fun t y => gy_fr (gs_fit g (xa ||| 224) xe t) y) 320 0 0 (by omega) ⟨fun k l _ _ => by rw [b_0]; exact (b_0 l).symm, fun j _ => b_0 j⟩ ?_ ?_
  · intro n y hy
    refine br_t (nI_le (a := 320) (by omega) (by omega)) ?_
    rw [gy_fr_get hy (gs_fit3 ok 320) hk]
    exact h1' xa xe a b hxa hxe
  · intro n t y ht hy go
    have er : nI t - nI t / 16 * 16 = nI (t % 16) := pk_rem (d := 16) (by omega) (by decide) (by decide)
    have hr : t % 16 < 16 := by omega
    have hK := gs_K5 ok hr
    have hL := gs_L3 ok hr
    have f3 := gs_fit3 ok (ab := xa ||| 224) (x := xe) t
    refine br_f (nI_ge (b := 320) (by omega) (by omega)) (And.intro (by decide) (nm_r er (And.intro (vp_in_nI hr (by decide)) ?_)))
    rw [nI_clamp (by omega), R.1 _ hr]
    refine nm_e ?_
    refine gl_ex (fun n' d z => wY_first_57 post (wY_first_30 post (nI k) (xa ||| 224) xe h_size 0 0 b_there b_kinds b_lengths b_parts b_word b_list b a n) (nI k) (xa ||| 224) xe y (nI t) (nI (t % 16)) h_size 0 0 b_there b_kinds b_lengths b_parts b_word b_list b a n' z (nI d))
      (fun d z => gs_tf (gs_H g (t % 16) = true ∧ gs_al g (xa ||| 224) (t % 16) d = true) z) (gs_L g (t % 16)) 0 (if gs_H g (t % 16) = true then 1 else 0) (by omega) ?_ ?_ ?_
    · by_cases c : gs_H g (t % 16) = true
      · rw [if_pos c]; exact gs_tf1 ⟨c, rfl⟩
      · rw [if_neg c]; exact gs_tf0 (fun d => c d.1)
    · intro n' z hz
      refine And.intro (vp_in_nI hr (by decide)) ?_
      rw [nI_clamp (by omega), R.2.2.1 _ hr]
      refine br_t (nI_le (by omega) (by omega)) (gs_tf_br hz (fun no => nm_r (nI_1 t) (go y ?_)) (fun yes => ?_))
      · show gy_fr (gs_fst g (xa ||| 224) xe (gs_fit g (xa ||| 224) xe t) (t % 16)) y
        unfold gs_fst
        rw [if_neg no]
        exact hy
      · refine gy_heads (h_many := 0) (h_grown := 0) (b_made := b) (b_least := a) ok R hx5 hy f3 hr (And.intro (vp_in_nI hr (by decide)) ?_)
        rw [R.2.1 _ hr]
        refine nm_e (nm_r (nI_1 t) (go _ ?_))
        show gy_fr (gs_fst g (xa ||| 224) xe (gs_fit g (xa ||| 224) xe t) (t % 16)) _
        unfold gs_fst
        rw [if_pos yes]
        exact gy_fr_step hy (gs_hd3 ok hr f3 _ hL) hK
    · intro n' d z hd hz go'
      refine And.intro (vp_in_nI hr (by decide)) ?_
      rw [nI_clamp (by omega), R.2.2.1 _ hr]
      have h8 := gs_S8 ok hr (show d < 3 by omega)
      refine br_f (nI_ge (by omega) (by omega)) (gs_tf_br hz (fun no => nm_r (nI_1 d) (go' 0 (gs_tf0 (fun c => no ⟨c.1, ?_⟩)))) (fun yes => gy_sym R hr (by omega) (gb_br1 (gs_S g (t % 16) d) (fun c => nm_r (nI_1 d) (go' 1 (gs_tf1 ⟨yes.1, ?_⟩))) (fun c => nm_r (nI_1 d) (go' 0 (gs_tf0 (fun e => ?_)))))))
      · have c2 : (gs_al g (xa ||| 224) (t % 16) d && bt (xa ||| 224) (gs_S g (t % 16) d)) = true := c.2
        rw [Bool.and_eq_true] at c2
        exact c2.1
      · show (gs_al g (xa ||| 224) (t % 16) d && bt (xa ||| 224) (gs_S g (t % 16) d)) = true
        rw [yes.2, c]; rfl
      · have c2 : (gs_al g (xa ||| 224) (t % 16) d && bt (xa ||| 224) (gs_S g (t % 16) d)) = true := e.2
        rw [Bool.and_eq_true, c] at c2
        exact absurd c2.2 (by decide)
end
end
section
/-! count: all lists of a length -/
def gs_wd (g : gs_G) (n c : Nat) : gs_G := (g.1, g.2.1, g.2.2.1, g.2.2.2.1, (fun i => c / 3 ^ i % 3), n)
theorem gs_wd_ok {g : gs_G} (ok : gs_ok g) {n c : Nat} (hn : n ≤ 4) : gs_ok (gs_wd g n c) := ⟨ok.1, ok.2.1, ok.2.2.1, fun i _ => Nat.mod_lt _ (by decide), show n ≤ 10 by omega⟩
def gs_ct (P : Nat → Prop) : Nat → Nat → Prop
  | 0 => fun m => m = 0
  | c + 1 => fun m => ∃ m', gs_ct P c m' ∧ ((P c ∧ m = m' + 1) ∨ (¬ P c ∧ m = m'))
theorem gs_ct_eq {P : Nat → Prop} : ∀ c m m', gs_ct P c m → gs_ct P c m' → m = m' := by
  intro c
  induction c with
  | zero => intro m m' h h'; exact Eq.trans h (Eq.symm h')
  | succ c ih =>
    intro m m' h h'
    obtain ⟨a, h1, h2⟩ := h
    obtain ⟨b, k1, k2⟩ := h'
    have e := ih a b h1 k1
    rcases h2 with ⟨p, h2⟩ | ⟨p, h2⟩ <;> rcases k2 with ⟨q, k2⟩ | ⟨q, k2⟩
    · omega
    · exact absurd p q
    · exact absurd q p
    · omega
def gs_cw (g : gs_G) (k n c : Nat) : Prop := gs_Der (gs_wd g n c) k 0 n
theorem gs_p3 {n : Nat} (h : n ≤ 4) : 3 ^ n ≤ 81 := Nat.pow_le_pow_right (n := 3) (by decide) h
theorem gs_dv (c i : Nat) : c / 3 ^ i / 3 = c / 3 ^ (i + 1) := by rw [Nat.div_div_eq_div_mul, Nat.pow_succ]
theorem gs_dl (c i : Nat) : c / 3 ^ i ≤ c := Nat.div_le_self _ _
theorem ix_r3 {a : Nat} (h : a < 2 ^ 31) : nI a - nI a / 3 * 3 = nI (a % 3) := pk_rem (d := 3) h (by decide) (by decide)
theorem ix_d3 {a : Nat} (h : a < 2 ^ 31) : nI a / 3 = nI (a / 3) := pk_div (d := 3) h (by decide) (by decide)
theorem ix_30 : ¬ (3 : Int32) = 0 := by decide
section
variable {g : gs_G} {f_present f_n f_keptLength f_pairs f_first f_waiting : Int32} {a_kindOf a_lengthOf a_symbolOf a_word a_kept a_made a_other a_byLength a_above a_firstHalf a_secondHalf a_wholeOf a_begun a_fact a_open a_waitWhat a_waitFrom a_waitTo a_callers a_back a_least : Nat → Int32}
theorem gx_keep (C : gx_C g f_present f_n a_kindOf a_lengthOf a_symbolOf a_word) {post : SX → Prop} (h : ∀ kp, (∀ i, i < gs_N g → kp i = nI (gs_W g i)) → post (f_present, f_n, f_n, f_pairs, f_first, f_waiting, a_kindOf, a_lengthOf, a_symbolOf, a_word, kp, a_made, a_other, a_byLength, a_above, a_firstHalf, a_secondHalf, a_wholeOf, a_begun, a_fact, a_open, a_waitWhat, a_waitFrom, a_waitTo, a_callers, a_back, a_least)) : wpX_keepWord post (f_present, f_n, f_keptLength, f_pairs, f_first, f_waiting, a_kindOf, a_lengthOf, a_symbolOf, a_word, a_kept, a_made, a_other, a_byLength, a_above, a_firstHalf, a_secondHalf, a_wholeOf, a_begun, a_fact, a_open, a_waitWhat, a_waitFrom, a_waitTo, a_callers, a_back, a_least) := by
  have hN := gs_N10 C.1
  have eN := C.2.1
  subst eN
  refine gl_fill (fun n x a => wX_keepWord_10 post f_present (nI (gs_N g)) (nI (gs_N g)) f_pairs f_first f_waiting n x a_kindOf a_lengthOf a_symbolOf a_word a a_made a_other a_byLength a_above a_firstHalf a_secondHalf a_wholeOf a_begun a_fact a_open a_waitWhat a_waitFrom a_waitTo a_callers a_back a_least) (gs_N g) (fun i => vp_nar .byte (a_word i)) ?_ ?_ a_kept
  · intro n a ha
    refine br_t (nI_le (by omega) (by omega)) (h a (fun i hi => ?_))
    have hw := gs_W3 C.1 hi
    rw [ha i hi, C.2.2.2.2.2.2.1 i hi, gb_nb' (by omega)]
  · intro n i a hi hh
    refine br_f (nI_ge (by omega) (by omega)) (And.intro (vp_in_nI (by omega) (by decide)) (And.intro (vp_in_nI (by omega) (by decide)) ?_))
    rw [nI_clamp (by omega)]
    exact nm_e (nm_r (nI_1 i) hh)
theorem gx_back (ok : gs_ok g) (hl : f_keptLength = nI (gs_N g)) (hk : ∀ i, i < gs_N g → a_kept i = nI (gs_W g i)) {post : SX → Prop} (h : ∀ w, (∀ i, i < gs_N g → w i = nI (gs_W g i)) → post (f_present, f_keptLength, f_keptLength, f_pairs, f_first, f_waiting, a_kindOf, a_lengthOf, a_symbolOf, w, a_kept, a_made, a_other, a_byLength, a_above, a_firstHalf, a_secondHalf, a_wholeOf, a_begun, a_fact, a_open, a_waitWhat, a_waitFrom, a_waitTo, a_callers, a_back, a_least)) : wpX_bringWordBack post (f_present, f_n, f_keptLength, f_pairs, f_first, f_waiting, a_kindOf, a_lengthOf, a_symbolOf, a_word, a_kept, a_made, a_other, a_byLength, a_above, a_firstHalf, a_secondHalf, a_wholeOf, a_begun, a_fact, a_open, a_waitWhat, a_waitFrom, a_waitTo, a_callers, a_back, a_least) := by
  have hN := gs_N10 ok
  subst hl
  refine gl_fill (fun n x a => wX_bringWordBack_10 post f_present (nI (gs_N g)) (nI (gs_N g)) f_pairs f_first f_waiting n x a_kindOf a_lengthOf a_symbolOf a a_kept a_made a_other a_byLength a_above a_firstHalf a_secondHalf a_wholeOf a_begun a_fact a_open a_waitWhat a_waitFrom a_waitTo a_callers a_back a_least) (gs_N g) (fun i => vp_nar .byte (a_kept i)) ?_ ?_ a_word
  · intro n a ha
    refine br_t (nI_le (by omega) (by omega)) (h a (fun i hi => ?_))
    have hw := gs_W3 ok hi
    rw [ha i hi, hk i hi, gb_nb' (by omega)]
  · intro n i a hi hh
    refine br_f (nI_ge (by omega) (by omega)) (And.intro (vp_in_nI (by omega) (by decide)) (And.intro (vp_in_nI (by omega) (by decide)) ?_))
    rw [nI_clamp (by omega)]
    exact nm_e (nm_r (nI_1 i) hh)
/-- one list -/
theorem gx_67 (C : gx_C g f_present f_n a_kindOf a_lengthOf a_symbolOf a_word) {k n c m : Nat} (hk : k < 5) (hn : n ≤ 4) (hc : c < 81) (hm : m ≤ c) {post : Int32 → SX → Prop} {J54 : Int32 → Int32 → Int32 → Int32 → Int32 → Int32 → Int32 → Int32 → (Nat → Int32) → (Nat → Int32) → (Nat → Int32) → (Nat → Int32) → (Nat → Int32) → (Nat → Int32) → (Nat → Int32) → (Nat → Int32) → (Nat → Int32) → (Nat → Int32) → (Nat → Int32) → (Nat → Int32) → (Nat → Int32) → (Nat → Int32) → (Nat → Int32) → (Nat → Int32) → (Nat → Int32) → (Nat → Int32) → (Nat → Int32) → (Nat → Int32) → (Nat → Int32) → Prop} {x3 : Int32}
    (hJ : ∀ (v : gv_s) w m', ((gs_cw g k n c ∧ m' = m + 1) ∨ (¬ gs_cw g k n c ∧ m' = m)) → J54 (nI m') (nI (c + 1)) f_present (nI n) f_keptLength v.1 v.2.1 v.2.2.1 a_kindOf a_lengthOf a_symbolOf w a_kept v.2.2.2.1 a_other v.2.2.2.2.1 v.2.2.2.2.2.1 v.2.2.2.2.2.2.1 v.2.2.2.2.2.2.2.1 v.2.2.2.2.2.2.2.2.1 v.2.2.2.2.2.2.2.2.2.1 v.2.2.2.2.2.2.2.2.2.2.1 v.2.2.2.2.2.2.2.2.2.2.2.1 v.2.2.2.2.2.2.2.2.2.2.2.2.1 v.2.2.2.2.2.2.2.2.2.2.2.2.2.1 v.2.2.2.2.2.2.2.2.2.2.2.2.2.2.1 v.2.2.2.2.2.2.2.2.2.2.2.2.2.2.2.1 v.2.2.2.2.2.2.2.2.2.2.2.2.2.2.2.2.1 a_least) :
    ∃ q, wX_count_67 post J54 (nI k) (nI n) x3 (nI m) (nI c) f_present (nI n) f_keptLength f_pairs f_first f_waiting q (nI c) 0 a_kindOf a_lengthOf a_symbolOf a_word a_kept a_made a_other a_byLength a_above a_firstHalf a_secondHalf a_wholeOf a_begun a_fact a_open a_waitWhat a_waitFrom a_waitTo a_callers a_back a_least := by
  have ok := C.1
  refine gl_ex (fun q i (s : Int32 × (Nat → Int32)) => wX_count_67 post J54 (nI k) (nI n) x3 (nI m) (nI c) f_present (nI n) f_keptLength f_pairs f_first f_waiting q s.1 (nI i) a_kindOf a_lengthOf a_symbolOf s.2 a_kept a_made a_other a_byLength a_above a_firstHalf a_secondHalf a_wholeOf a_begun a_fact a_open a_waitWhat a_waitFrom a_waitTo a_callers a_back a_least) (fun i s => s.1 = nI (c / 3 ^ i) ∧ ∀ i', i' < i → s.2 i' = nI (c / 3 ^ i' % 3)) n 0 (nI c, a_word) (by omega) ⟨by rw [Nat.pow_zero, Nat.div_one], fun i' h => absurd h (by omega)⟩ ?_ ?_
  · rintro q ⟨x, w⟩ ⟨_, y⟩
    have y' : ∀ i', i' < n → w i' = nI (c / 3 ^ i' % 3) := y
    have C' : gx_C (gs_wd g n c) f_present (nI n) a_kindOf a_lengthOf a_symbolOf w := ⟨gs_wd_ok ok hn, rfl, C.2.2.1, C.2.2.2.1, C.2.2.2.2.1, C.2.2.2.2.2.1, y', C.2.2.2.2.2.2.2⟩
    refine br_t (nI_le (by omega) (by omega)) ?_
    refine gx_makes (g := gs_wd g n c) (f_n := nI n) (a_word := w) C' (fun hno => absurd ⟨3, k, 0, n, by omega, hk, by omega, Nat.le_refl n, rfl, rfl, rfl, rfl⟩ hno) (fun e k' he hk' e1 e2 v z hz => ?_)
    have ek : k = k' := (nI_eq (by omega) (by omega)).mp e2
    subst ek
    refine gs_tf_br hz (fun no => nm_r (e' := nI m) (by rw [Int32.add_zero]) (nm_r (nI_1 c) (hJ v w m (Or.inr ⟨no, rfl⟩)))) (fun yes => nm_r (nI_1 m) (nm_r (nI_1 c) (hJ v w (m + 1) (Or.inl ⟨yes, rfl⟩))))
  · rintro q i ⟨x, w⟩ hi ⟨e1, y⟩ go
    have e1' : x = nI (c / 3 ^ i) := e1
    have hdl := gs_dl c i
    subst e1'
    refine br_f (nI_ge (by omega) (by omega)) (And.intro ix_30 (And.intro (vp_in_nI (by omega) (by decide)) ?_))
    rw [nI_clamp (by omega), ix_r3 (by omega), gb_nb (by omega), ix_d3 (by omega), gs_dv]
    refine nm_e (And.intro ix_30 (nm_e (nm_r (nI_1 i) (go (_, _) ⟨rfl, fun i' hi' => ?_⟩))))
    show upd w i _ i' = _
    by_cases e : i' = i
    · rw [e, pk_us]
    · rw [pk_un e]; exact y i' (by omega)
theorem gx_count (C : gx_C g f_present f_n a_kindOf a_lengthOf a_symbolOf a_word) {v1 v2 : Int32} {post : Int32 → SX → Prop} (h0 : ¬ (∃ k n, k < 5 ∧ n ≤ 4 ∧ v1 = nI k ∧ v2 = nI n) → post (-1) (f_present, f_n, f_keptLength, f_pairs, f_first, f_waiting, a_kindOf, a_lengthOf, a_symbolOf, a_word, a_kept, a_made, a_other, a_byLength, a_above, a_firstHalf, a_secondHalf, a_wholeOf, a_begun, a_fact, a_open, a_waitWhat, a_waitFrom, a_waitTo, a_callers, a_back, a_least))
    (h1 : ∀ k n, k < 5 → n ≤ 4 → v1 = nI k → v2 = nI n → ∀ (v : gv_s) w kp m, (∀ i, i < gs_N g → w i = nI (gs_W g i)) → gs_ct (gs_cw g k n) (3 ^ n) m → post (nI m) (f_present, f_n, f_n, v.1, v.2.1, v.2.2.1, a_kindOf, a_lengthOf, a_symbolOf, w, kp, v.2.2.2.1, a_other, v.2.2.2.2.1, v.2.2.2.2.2.1, v.2.2.2.2.2.2.1, v.2.2.2.2.2.2.2.1, v.2.2.2.2.2.2.2.2.1, v.2.2.2.2.2.2.2.2.2.1, v.2.2.2.2.2.2.2.2.2.2.1, v.2.2.2.2.2.2.2.2.2.2.2.1, v.2.2.2.2.2.2.2.2.2.2.2.2.1, v.2.2.2.2.2.2.2.2.2.2.2.2.2.1, v.2.2.2.2.2.2.2.2.2.2.2.2.2.2.1, v.2.2.2.2.2.2.2.2.2.2.2.2.2.2.2.1, v.2.2.2.2.2.2.2.2.2.2.2.2.2.2.2.2.1, a_least)) : wpX_count post (f_present, f_n, f_keptLength, f_pairs, f_first, f_waiting, a_kindOf, a_lengthOf, a_symbolOf, a_word, a_kept, a_made, a_other, a_byLength, a_above, a_firstHalf, a_secondHalf, a_wholeOf, a_begun, a_fact, a_open, a_waitWhat, a_waitFrom, a_waitTo, a_callers, a_back, a_least) v1 v2 := by
  have ok := C.1
  have hN := gs_N10 ok
  unfold wpX_count
  refine gx_kind (fun c => br_t rfl (h0 (fun ⟨k, _, hk, _, ek, _⟩ => gs_nr5 c hk ek))) (fun k hk ek => br_f gb_10 ?_)
  refine br_c (fun c => h0 (fun ⟨_, n, _, hn, _, en⟩ => by rw [en] at c; exact nI_pos (by omega) c)) (fun c => ?_)
  obtain ⟨n, hn2, en⟩ := nI_of c
  refine pk_le n 4 (fun hn => ?_) (fun hn => h0 (fun ⟨_, n', _, hn', _, en'⟩ => ?_)) en
  · have h1' := h1 k n hk hn ek en
    rw [ek, en]
    have hp3 := gs_p3 hn
    refine gx_keep C (fun kp hkp => ?_)
    refine gl_ex (fun q i x => wX_count_32 post (nI k) (nI n) f_present (nI n) f_n f_pairs f_first f_waiting a_kindOf a_lengthOf a_symbolOf a_word kp a_made a_other a_byLength a_above a_firstHalf a_secondHalf a_wholeOf a_begun a_fact a_open a_waitWhat a_waitFrom a_waitTo a_callers a_back a_least q x (nI i)) (fun i x => x = nI (3 ^ i)) n 0 1 (by omega) rfl ?_ ?_
    · rintro q x rfl
      refine br_t (nI_le (by omega) (by omega)) ?_
      refine gl_ex (fun q c (s : Int32 × (Nat → Int32) × gv_s) => wX_count_54 post (nI k) (nI n) (nI (3 ^ n)) q s.1 (nI c) f_present (nI n) f_n s.2.2.1 s.2.2.2.1 s.2.2.2.2.1 a_kindOf a_lengthOf a_symbolOf s.2.1 kp s.2.2.2.2.2.1 a_other s.2.2.2.2.2.2.1 s.2.2.2.2.2.2.2.1 s.2.2.2.2.2.2.2.2.1 s.2.2.2.2.2.2.2.2.2.1 s.2.2.2.2.2.2.2.2.2.2.1 s.2.2.2.2.2.2.2.2.2.2.2.1 s.2.2.2.2.2.2.2.2.2.2.2.2.1 s.2.2.2.2.2.2.2.2.2.2.2.2.2.1 s.2.2.2.2.2.2.2.2.2.2.2.2.2.2.1 s.2.2.2.2.2.2.2.2.2.2.2.2.2.2.2.1 s.2.2.2.2.2.2.2.2.2.2.2.2.2.2.2.2.1 s.2.2.2.2.2.2.2.2.2.2.2.2.2.2.2.2.2.1 s.2.2.2.2.2.2.2.2.2.2.2.2.2.2.2.2.2.2.1 a_least) (fun c s => ∃ m, m ≤ c ∧ s.1 = nI m ∧ gs_ct (gs_cw g k n) c m) (3 ^ n) 0
        (0, a_word, (f_pairs, f_first, f_waiting, a_made, a_byLength, a_above, a_firstHalf, a_secondHalf, a_wholeOf, a_begun, a_fact, a_open, a_waitWhat, a_waitFrom, a_waitTo, a_callers, a_back, ())) (Nat.zero_le _) ⟨0, Nat.le_refl 0, rfl, rfl⟩ ?_ ?_
      · rintro q ⟨x, w, v⟩ ⟨m, hm, ex, hct⟩
        have ex' : x = nI m := ex
        subst ex'
        refine br_t (nI_le (by omega) (by omega)) (gx_back (f_keptLength := f_n) (a_kept := kp) ok C.2.1 hkp (fun w' hw' => h1' v w' kp m hw' hct))
      · rintro q c ⟨x, w, v⟩ hc ⟨m, hm, ex, hct⟩ go
        have ex' : x = nI m := ex
        subst ex'
        have C' : gx_C (gs_e g) f_present (nI 0) a_kindOf a_lengthOf a_symbolOf w := ⟨gs_e_ok ok, rfl, C.2.2.1, C.2.2.2.1, C.2.2.2.2.1, C.2.2.2.2.2.1, fun i hi => absurd hi (Nat.not_lt_zero i), C.2.2.2.2.2.2.2⟩
        refine br_f (nI_ge (by omega) (by omega)) (gx_67 (g := gs_e g) (f_n := nI 0) (a_word := w) C' hk hn (by omega) hm (fun v' w' m' hm' => go (nI m', w', v') ⟨m', ?_, rfl, m, hct, hm'⟩))
        rcases hm' with a | a
        · have := a.2
          omega
        · have := a.2
          omega
    · rintro q i x hi rfl go
      refine br_f (nI_ge (by omega) (by omega)) (nm_r (pk_mul (3 ^ i) 3) (nm_r (nI_1 i) (go _ (by rw [Nat.pow_succ]))))
  · rw [en, nI_eq hn2 (by omega)] at en'
    omega
end
section
variable {g : gs_G} {h_size h_many h_grown : Int32} {b_there b_kinds b_lengths b_parts b_word b_list b_made b_least : Nat → Int32}
theorem gy_83 (ok : gs_ok g) (R : gy_R g b_there b_kinds b_lengths b_parts) {k n c m : Nat} (hk : k < 5) (hn : n ≤ 4) (hc : c < 81) (hm : m ≤ c) {post : Int32 → SY → Prop} {J65 : Int32 → Int32 → Int32 → Int32 → Int32 → (Nat → Int32) → (Nat → Int32) → (Nat → Int32) → (Nat → Int32) → (Nat → Int32) → (Nat → Int32) → (Nat → Int32) → (Nat → Int32) → Prop} {x3 : Int32}
    (hJ : ∀ l b m', ((gs_cw g k n c ∧ m' = m + 1) ∨ (¬ gs_cw g k n c ∧ m' = m)) → J65 (nI m') (nI (c + 1)) h_size (nI n) 0 b_there b_kinds b_lengths b_parts b_word l b b_least) :
    ∃ q, wY_count_83 post J65 (nI k) (nI n) x3 (nI m) (nI c) h_size (nI n) h_grown q (nI c) 0 b_there b_kinds b_lengths b_parts b_word b_list b_made b_least := by
  refine gl_ex (fun q i (s : Int32 × (Nat → Int32)) => wY_count_83 post J65 (nI k) (nI n) x3 (nI m) (nI c) h_size (nI n) h_grown q s.1 (nI i) b_there b_kinds b_lengths b_parts b_word s.2 b_made b_least) (fun i s => s.1 = nI (c / 3 ^ i) ∧ ∀ i', i' < i → s.2 i' = nI (c / 3 ^ i' % 3)) n 0 (nI c, b_list) (by omega) ⟨by rw [Nat.pow_zero, Nat.div_one], fun i' h => absurd h (by omega)⟩ ?_ ?_
  · rintro q ⟨x, w⟩ ⟨_, y⟩
    have y' : gy_w (gs_wd g n c) w := y
    have R' : gy_R (gs_wd g n c) b_there b_kinds b_lengths b_parts := R
    have ok' := gs_wd_ok (c := c) ok hn
    refine br_t (nI_le (by omega) (by omega)) (gy_grow (g := gs_wd g n c) (h_many := nI n) (b_list := w) ok' R' y' rfl (fun b T => ?_))
    refine gy_covT (g := gs_wd g n c) (i := 0) (j := n) (b_list := w) (b_made := b) ok' y' T hk (Nat.zero_le n) (Nat.le_refl n) (fun z hz => ?_)
    exact gs_tf_br hz (fun no => nm_r (nI_1 c) (hJ w b m (Or.inr ⟨no, rfl⟩))) (fun yes => nm_r (nI_1 m) (nm_r (nI_1 c) (hJ w b (m + 1) (Or.inl ⟨yes, rfl⟩))))
  · rintro q i ⟨x, w⟩ hi ⟨e1, y⟩ go
    have e1' : x = nI (c / 3 ^ i) := e1
    have hdl := gs_dl c i
    subst e1'
    refine br_f (nI_ge (by omega) (by omega)) (And.intro ix_30 (And.intro (vp_in_nI (by omega) (by decide)) ?_))
    rw [nI_clamp (by omega), ix_r3 (by omega), ix_d3 (by omega), gs_dv]
    refine nm_e (And.intro ix_30 (nm_e (nm_r (nI_1 i) (go (_, _) ⟨rfl, fun i' hi' => ?_⟩))))
    show upd w i _ i' = _
    by_cases e : i' = i
    · rw [e, pk_us]
    · rw [pk_un e]; exact y i' (by omega)
theorem gy_65 (ok : gs_ok g) (R : gy_R g b_there b_kinds b_lengths b_parts) {k n p : Nat} (hk : k < 5) (hn : n ≤ 4) (hp : p ≤ 81) {post : Int32 → SY → Prop}
    (h : ∀ hm hg l b m, gs_ct (gs_cw g k n) p m → post (nI m) (h_size, hm, hg, b_there, b_kinds, b_lengths, b_parts, b_word, l, b, b_least)) : ∃ q, wY_count_65 post (nI k) (nI n) (nI p) q 0 0 h_size h_many h_grown b_there b_kinds b_lengths b_parts b_word b_list b_made b_least := by
  refine gl_ex (fun q c (s : Int32 × Int32 × Int32 × (Nat → Int32) × (Nat → Int32)) => wY_count_65 post (nI k) (nI n) (nI p) q s.1 (nI c) h_size s.2.1 s.2.2.1 b_there b_kinds b_lengths b_parts b_word s.2.2.2.1 s.2.2.2.2 b_least) (fun c s => ∃ m, m ≤ c ∧ s.1 = nI m ∧ gs_ct (gs_cw g k n) c m) p 0 (0, h_many, h_grown, b_list, b_made) (by omega) ⟨0, Nat.le_refl 0, rfl, rfl⟩ ?_ ?_
  · rintro q ⟨x, hm', hg', l, b⟩ ⟨m, hm, ex, hct⟩
    have ex' : x = nI m := ex
    subst ex'
    exact br_t (nI_le (by omega) (by omega)) (h hm' hg' l b m hct)
  · rintro q c ⟨x, hm', hg', l, b⟩ hc ⟨m, hm, ex, hct⟩ go
    have ex' : x = nI m := ex
    subst ex'
    refine br_f (nI_ge (by omega) (by omega)) (gy_83 (h_grown := hg') (b_list := l) (b_made := b) ok R hk hn (by omega) hm (fun l' b' m' hm'' => go (nI m', nI n, 0, l', b') ⟨m', ?_, rfl, m, hct, hm''⟩))
    rcases hm'' with a | a
    · have := a.2
      omega
    · have := a.2
      omega
theorem gy_count (ok : gs_ok g) (R : gy_R g b_there b_kinds b_lengths b_parts) {v1 v2 : Int32} {post : Int32 → SY → Prop} (h0 : ¬ (∃ k n, k < 5 ∧ n ≤ 4 ∧ v1 = nI k ∧ v2 = nI n) → post (-1) (h_size, h_many, h_grown, b_there, b_kinds, b_lengths, b_parts, b_word, b_list, b_made, b_least))
    (h1 : ∀ k n, k < 5 → n ≤ 4 → v1 = nI k → v2 = nI n → ∀ hm hg l b m, gs_ct (gs_cw g k n) (3 ^ n) m → post (nI m) (h_size, hm, hg, b_there, b_kinds, b_lengths, b_parts, b_word, l, b, b_least)) : wpY_count post (h_size, h_many, h_grown, b_there, b_kinds, b_lengths, b_parts, b_word, b_list, b_made, b_least) v1 v2 := by
  unfold wpY_count
  refine gy_kind (fun c => br_t rfl (h0 (fun ⟨k, _, hk, _, ek, _⟩ => gs_nr5 c hk ek))) (fun k hk ek => br_f gb_10 ?_)
  refine br_c (fun c => h0 (fun ⟨_, n, _, hn, _, en⟩ => by rw [en] at c; exact nI_pos (by omega) c)) (fun c => ?_)
  obtain ⟨n, hn2, en⟩ := nI_of c
  refine pk_le n 4 (fun hn => ?_) (fun hn => h0 (fun ⟨_, n', _, hn', _, en'⟩ => ?_)) en
  · have h1' := h1 k n hk hn ek en
    rw [ek, en]
    refine pk_eq n 0 (fun e => ?_) (fun e0 => pk_eq n 1 (fun e => ?_) (fun e1 => pk_eq n 2 (fun e => ?_) (fun e2 => pk_eq n 3 (fun e => ?_) (fun e3 => ?_))))
    · subst e; exact gy_65 (p := 1) ok R hk hn (by omega) h1'
    · subst e; exact gy_65 (p := 3) ok R hk hn (by omega) h1'
    · subst e; exact gy_65 (p := 9) ok R hk hn (by omega) h1'
    · subst e; exact gy_65 (p := 27) ok R hk hn (by omega) h1'
    · have e : n = 4 := by omega
      subst e; exact gy_65 (p := 81) ok R hk hn (by omega) h1'
  · rw [en, nI_eq hn2 (by omega)] at en'
    omega
end
end
section
/-! rule, drop, rules, write, cut -/
def gs_sy (x : Int32) (d : Nat) : Nat := (x >>> ((3 * nI d) &&& 31)).toBitVec.toNat % 8
theorem gs_sy_e (x : Int32) (d : Nat) : ((x >>> ((3 * nI d) &&& 31)) &&& 7) = nI (gs_sy x d) := pk_and _ 3 (by decide)
theorem gs_sy_8 (x : Int32) (d : Nat) : gs_sy x d < 8 := Nat.mod_lt _ (by decide)
def gs_set (g : gs_G) (r k l : Nat) (sy : Nat → Nat) : gs_G :=
  ((fun r' => if r' = r then true else g.1 r'), (fun r' => if r' = r then k else g.2.1 r'), (fun r' => if r' = r then l else g.2.2.1 r'), (fun r' d => if r' = r then sy d else g.2.2.2.1 r' d), g.2.2.2.2.1, g.2.2.2.2.2)
theorem gs_set_ok {g : gs_G} (ok : gs_ok g) {r k l : Nat} {sy : Nat → Nat} (hk : k < 5) (hl : l ≤ 3) (hs : ∀ d, sy d < 8) : gs_ok (gs_set g r k l sy) := by
  refine ⟨fun r' hr => ?_, fun r' hr => ?_, fun r' d hr hd => ?_, ok.2.2.2.1, ok.2.2.2.2⟩
  · show (if r' = r then k else gs_K g r') < 5
    split
    · exact hk
    · exact gs_K5 ok hr
  · show (if r' = r then l else gs_L g r') ≤ 3
    split
    · exact hl
    · exact gs_L3 ok hr
  · show (if r' = r then sy d else gs_S g r' d) < 8
    split
    · exact hs d
    · exact gs_S8 ok hr hd
def gs_clr (g : gs_G) (r : Nat) : gs_G := ((fun r' => if r' = r then false else g.1 r'), g.2)
def gs_app (g : gs_G) (w : Nat) : gs_G := (g.1, g.2.1, g.2.2.1, g.2.2.2.1, (fun i => if i = gs_N g then w else g.2.2.2.2.1 i), gs_N g + 1)
def gs_len (g : gs_G) (n : Nat) : gs_G := (g.1, g.2.1, g.2.2.1, g.2.2.2.1, g.2.2.2.2.1, n)
def gs_vr (v1 v2 v3 : Int32) : Prop := ∃ k l, k < 5 ∧ l ≤ 3 ∧ v1 = nI k ∧ v2 = nI l ∧ ¬ v3 < 0 ∧ v3 < (1 : Int32) <<< ((3 * v2) &&& 31)
theorem gs_nr3 {x : Int32} (h : 3 < x) {l : Nat} (hl : l ≤ 3) (e : x = nI l) : False := by
  rw [e] at h
  exact nI_nlt (b := l) (a := 3) hl (by omega) h
theorem gs_free (g : gs_G) : (∀ r, r < 16 → gs_H g r = true) ∨ ∃ r, r < 16 ∧ gs_H g r = false ∧ ∀ r', r' < r → gs_H g r' = true := by
  by_cases c : ∃ r, r < 16 ∧ gs_H g r = false
  · obtain ⟨r, h1, h2⟩ := pk_least _ c
    refine Or.inr ⟨r, h1.1, h1.2, fun r' hr' => ts_nf (fun d => h2 r' hr' ⟨by omega, d⟩)⟩
  · exact Or.inl (fun r hr => ts_nf (fun d => c ⟨r, hr, d⟩))
section
variable {g : gs_G} {f_present f_n f_keptLength f_pairs f_first f_waiting : Int32} {a_kindOf a_lengthOf a_symbolOf a_word a_kept a_made a_other a_byLength a_above a_firstHalf a_secondHalf a_wholeOf a_begun a_fact a_open a_waitWhat a_waitFrom a_waitTo a_callers a_back a_least : Nat → Int32}
theorem gx_rule (C : gx_C g f_present f_n a_kindOf a_lengthOf a_symbolOf a_word) {v1 v2 v3 : Int32} {post : Int32 → SX → Prop} (h0 : ¬ gs_vr v1 v2 v3 → post (-1) (f_present, f_n, f_keptLength, f_pairs, f_first, f_waiting, a_kindOf, a_lengthOf, a_symbolOf, a_word, a_kept, a_made, a_other, a_byLength, a_above, a_firstHalf, a_secondHalf, a_wholeOf, a_begun, a_fact, a_open, a_waitWhat, a_waitFrom, a_waitTo, a_callers, a_back, a_least))
    (hf : gs_vr v1 v2 v3 → (∀ r, r < 16 → gs_H g r = true) → post (-2) (f_present, f_n, f_keptLength, f_pairs, f_first, f_waiting, a_kindOf, a_lengthOf, a_symbolOf, a_word, a_kept, a_made, a_other, a_byLength, a_above, a_firstHalf, a_secondHalf, a_wholeOf, a_begun, a_fact, a_open, a_waitWhat, a_waitFrom, a_waitTo, a_callers, a_back, a_least))
    (hn : ∀ k l r, k < 5 → l ≤ 3 → v1 = nI k → v2 = nI l → ¬ v3 < 0 → v3 < (1 : Int32) <<< ((3 * v2) &&& 31) → r < 16 → gs_H g r = false → (∀ r', r' < r → gs_H g r' = true) → ∀ fp ka la sa, gx_C (gs_set g r k l (gs_sy v3)) fp f_n ka la sa a_word → post (nI r) (fp, f_n, f_keptLength, f_pairs, f_first, f_waiting, ka, la, sa, a_word, a_kept, a_made, a_other, a_byLength, a_above, a_firstHalf, a_secondHalf, a_wholeOf, a_begun, a_fact, a_open, a_waitWhat, a_waitFrom, a_waitTo, a_callers, a_back, a_least)) :
    wpX_rule post (f_present, f_n, f_keptLength, f_pairs, f_first, f_waiting, a_kindOf, a_lengthOf, a_symbolOf, a_word, a_kept, a_made, a_other, a_byLength, a_above, a_firstHalf, a_secondHalf, a_wholeOf, a_begun, a_fact, a_open, a_waitWhat, a_waitFrom, a_waitTo, a_callers, a_back, a_least) v1 v2 v3 := by
  have ok := C.1
  unfold wpX_rule
  refine gx_kind (fun c => br_t rfl (h0 (fun ⟨k, _, hk, _, ek, _⟩ => gs_nr5 c hk ek))) (fun k hk ek => br_f gb_10 ?_)
  refine br_c (fun c => h0 (fun ⟨_, l, _, hl, _, el, _⟩ => by rw [el] at c; exact nI_pos (by omega) c)) (fun c2 => ?_)
  obtain ⟨l, hl2, el⟩ := nI_of c2
  refine br_c (fun c => h0 (fun ⟨_, l, _, hl, _, el, _⟩ => gs_nr3 c hl el)) (fun c3 => ?_)
  have hl : l ≤ 3 := by
    apply Classical.byContradiction
    intro hno
    rw [el] at c3
    exact c3 (nI_lt (a := 3) (by omega) hl2)
  refine br_c (fun c => h0 (fun ⟨_, _, _, _, _, _, d, _⟩ => d c)) (fun c4 => br_c (fun c5 => ?_) (fun c5 => h0 (fun ⟨_, _, _, _, _, _, _, d⟩ => c5 d)))
  have vr : gs_vr v1 v2 v3 := ⟨k, l, hk, hl, ek, el, c4, c5⟩
  rcases gs_free g with full | ⟨r0, hr0, hh0, hlow⟩
  · refine gl_ex (fun n r (_ : Unit) => wX_rule_34 post v1 v2 v3 f_present f_n f_keptLength f_pairs f_first f_waiting a_kindOf a_lengthOf a_symbolOf a_word a_kept a_made a_other a_byLength a_above a_firstHalf a_secondHalf a_wholeOf a_begun a_fact a_open a_waitWhat a_waitFrom a_waitTo a_callers a_back a_least n (nI r)) (fun _ _ => True) 16 0 () (by omega) trivial (fun n _ _ => br_t (nI_le (a := 16) (by omega) (by omega)) (hf vr full)) ?_
    intro n r _ hr _ go
    exact br_f (nI_ge (b := 16) (by omega) (by omega)) (gx_has C hr (fun c => absurd (c.symm.trans (full r hr)) (by decide)) (fun _ => br_f gb_10 (nm_r (nI_1 r) (go () trivial))))
  · refine gl_ex (fun n r (_ : Unit) => wX_rule_34 post v1 v2 v3 f_present f_n f_keptLength f_pairs f_first f_waiting a_kindOf a_lengthOf a_symbolOf a_word a_kept a_made a_other a_byLength a_above a_firstHalf a_secondHalf a_wholeOf a_begun a_fact a_open a_waitWhat a_waitFrom a_waitTo a_callers a_back a_least n (nI r)) (fun _ _ => True) r0 0 () (by omega) trivial ?_ ?_
    · intro n _ _
      refine br_f (nI_ge (b := 16) (by omega) (by omega)) (gx_has C hr0 (fun _ => br_t rfl (nm_e (And.intro (vp_in_nI hr0 (by decide)) ?_))) (fun c => absurd (hh0.symm.trans c) (by decide)))
      rw [nI_clamp (by omega), ek, el, gb_nb (by omega)]
      refine nm_e (And.intro (vp_in_nI hr0 (by decide)) ?_)
      rw [gb_nb (by omega)]
      refine nm_e ?_
      refine gl_ex (fun n d sa => wX_rule_84 post v3 (nI r0) (f_present ||| ((1 : Int32) <<< (nI r0 &&& 31))) f_n f_keptLength f_pairs f_first f_waiting n (nI d) (upd a_kindOf r0 (nI k)) (upd a_lengthOf r0 (nI l)) sa a_word a_kept a_made a_other a_byLength a_above a_firstHalf a_secondHalf a_wholeOf a_begun a_fact a_open a_waitWhat a_waitFrom a_waitTo a_callers a_back a_least)
        (fun d sa => (∀ r' d', r' < 16 → d' < 3 → r' ≠ r0 → sa (r' * 3 + d') = nI (gs_S g r' d')) ∧ (∀ d', d' < d → sa (r0 * 3 + d') = nI (gs_sy v3 d'))) 3 0 a_symbolOf (by omega) ⟨fun r' d' h1 h2 _ => C.2.2.2.2.2.1 r' d' h1 h2, fun d' h => absurd h (by omega)⟩ ?_ ?_
      · rintro n sa ⟨y1, y2⟩
        refine br_t (nI_le (a := 3) (by omega) (by omega)) (hn k l r0 hk hl ek el c4 c5 hr0 hh0 hlow _ _ _ sa ⟨gs_set_ok ok hk hl (gs_sy_8 v3), C.2.1, fun r hr => ?_, fun r hr => ?_, fun r hr => ?_, fun r d hr hd => ?_, C.2.2.2.2.2.2.1, fun j hj => ?_⟩)
        · show bt (f_present ||| ((1 : Int32) <<< (nI r0 &&& 31))) r = if r = r0 then true else gs_H g r
          rw [b_or, gb_one (by omega) (by omega), C.2.2.1 r hr]
          by_cases e : r = r0
          · rw [if_pos e, decide_eq_true e, Bool.or_true]
          · rw [if_neg e, decide_eq_false e, Bool.or_false]
        · show upd a_kindOf r0 (nI k) r = nI (if r = r0 then k else gs_K g r)
          by_cases e : r = r0
          · rw [if_pos e, e, pk_us]
          · rw [if_neg e, pk_un e]; exact C.2.2.2.1 r hr
        · show upd a_lengthOf r0 (nI l) r = nI (if r = r0 then l else gs_L g r)
          by_cases e : r = r0
          · rw [if_pos e, e, pk_us]
          · rw [if_neg e, pk_un e]; exact C.2.2.2.2.1 r hr
        · show sa (r * 3 + d) = nI (if r = r0 then gs_sy v3 d else gs_S g r d)
          by_cases e : r = r0
          · rw [if_pos e, e]; exact y2 d hd
          · rw [if_neg e]; exact y1 r d hr hd e
        · by_cases c32 : j < 32
          · rw [b_or, gb_one (by omega) c32, C.2.2.2.2.2.2.2 j hj, decide_eq_false (by omega)]
            rfl
          · exact b_big (by omega)
      · rintro n d sa hd ⟨y1, y2⟩ go
        refine br_f (nI_ge (b := 3) (by omega) (by omega)) (And.intro (by rw [ix_3]; exact vp_in_nI (by omega) (by decide)) ?_)
        have h8 := gs_sy_8 v3 d
        rw [ix_3, nI_clamp (by omega), gs_sy_e, gb_nb (by omega)]
        refine nm_e (nm_r (nI_1 d) (go _ ⟨fun r' d' h1 h2 h3 => ?_, fun d' hd' => ?_⟩))
        · rw [pk_un (by omega)]; exact y1 r' d' h1 h2 h3
        · by_cases e : d' = d
          · rw [e, pk_us]
          · rw [pk_un (by omega)]; exact y2 d' (by omega)
    · intro n r _ hr _ go
      exact br_f (nI_ge (b := 16) (by omega) (by omega)) (gx_has C (by omega) (fun c => absurd (c.symm.trans (hlow r hr)) (by decide)) (fun _ => br_f gb_10 (nm_r (nI_1 r) (go () trivial))))
theorem gx_hasA (C : gx_C g f_present f_n a_kindOf a_lengthOf a_symbolOf a_word) {x : Int32} {post : Int32 → Prop} (f : ¬ (∃ r, r < 16 ∧ x = nI r ∧ gs_H g r = true) → post 0) (t : ∀ r, r < 16 → x = nI r → gs_H g r = true → post 1) : wpX_has post (f_present, f_n, f_keptLength, f_pairs, f_first, f_waiting, a_kindOf, a_lengthOf, a_symbolOf, a_word, a_kept, a_made, a_other, a_byLength, a_above, a_firstHalf, a_secondHalf, a_wholeOf, a_begun, a_fact, a_open, a_waitWhat, a_waitFrom, a_waitTo, a_callers, a_back, a_least) x := by
  refine br_c (fun c => f (fun ⟨r, hr, e, _⟩ => by rw [e] at c; exact nI_pos (by omega) c)) (fun c => ?_)
  obtain ⟨r, hr2, e⟩ := nI_of c
  refine pk_le 16 r (fun h => f (fun ⟨r', hr', e', _⟩ => ?_)) (fun h => ?_) rfl e
  · rw [e, nI_eq hr2 (by omega)] at e'
    omega
  · rw [e]
    refine gb_br r (fun c2 => f (fun ⟨r', hr', e', hh⟩ => ?_)) (fun c2 => t r h e (by rw [← C.2.2.1 r h]; exact c2))
    rw [e, nI_eq hr2 (by omega)] at e'
    subst e'
    rw [← C.2.2.1 _ h, c2] at hh
    exact absurd hh (by decide)
theorem gx_drop (C : gx_C g f_present f_n a_kindOf a_lengthOf a_symbolOf a_word) {v1 : Int32} {post : Int32 → SX → Prop} (h0 : ¬ (∃ r, r < 16 ∧ v1 = nI r ∧ gs_H g r = true) → post 0 (f_present, f_n, f_keptLength, f_pairs, f_first, f_waiting, a_kindOf, a_lengthOf, a_symbolOf, a_word, a_kept, a_made, a_other, a_byLength, a_above, a_firstHalf, a_secondHalf, a_wholeOf, a_begun, a_fact, a_open, a_waitWhat, a_waitFrom, a_waitTo, a_callers, a_back, a_least))
    (h1 : ∀ r, r < 16 → v1 = nI r → gs_H g r = true → ∀ fp, gx_C (gs_clr g r) fp f_n a_kindOf a_lengthOf a_symbolOf a_word → post 1 (fp, f_n, f_keptLength, f_pairs, f_first, f_waiting, a_kindOf, a_lengthOf, a_symbolOf, a_word, a_kept, a_made, a_other, a_byLength, a_above, a_firstHalf, a_secondHalf, a_wholeOf, a_begun, a_fact, a_open, a_waitWhat, a_waitFrom, a_waitTo, a_callers, a_back, a_least)) : wpX_drop post (f_present, f_n, f_keptLength, f_pairs, f_first, f_waiting, a_kindOf, a_lengthOf, a_symbolOf, a_word, a_kept, a_made, a_other, a_byLength, a_above, a_firstHalf, a_secondHalf, a_wholeOf, a_begun, a_fact, a_open, a_waitWhat, a_waitFrom, a_waitTo, a_callers, a_back, a_least) v1 := by
  unfold wpX_drop
  refine gx_hasA C (fun no => br_t rfl (h0 no)) (fun r hr er hh => br_f gb_10 (nm_e (h1 r hr er hh _ ⟨C.1, C.2.1, fun r' hr' => ?_, C.2.2.2.1, C.2.2.2.2.1, C.2.2.2.2.2.1, C.2.2.2.2.2.2.1, fun j hj => ?_⟩)))
  · show _ = if r' = r then false else gs_H g r'
    rw [er, b_and, gb_not _ (by omega), gb_one (by omega) (by omega), C.2.2.1 r' hr']
    by_cases e : r' = r
    · rw [if_pos e, decide_eq_true e]; simp
    · rw [if_neg e, decide_eq_false e]; simp
  · rw [b_and, C.2.2.2.2.2.2.2 j hj]; rfl
theorem gx_write (C : gx_C g f_present f_n a_kindOf a_lengthOf a_symbolOf a_word) {v1 : Int32} {post : Int32 → SX → Prop} (h0 : ¬ (∃ w, w < 3 ∧ v1 = nI w) → post (-1) (f_present, f_n, f_keptLength, f_pairs, f_first, f_waiting, a_kindOf, a_lengthOf, a_symbolOf, a_word, a_kept, a_made, a_other, a_byLength, a_above, a_firstHalf, a_secondHalf, a_wholeOf, a_begun, a_fact, a_open, a_waitWhat, a_waitFrom, a_waitTo, a_callers, a_back, a_least)) (hf : (∃ w, w < 3 ∧ v1 = nI w) → gs_N g = 10 → post (-2) (f_present, f_n, f_keptLength, f_pairs, f_first, f_waiting, a_kindOf, a_lengthOf, a_symbolOf, a_word, a_kept, a_made, a_other, a_byLength, a_above, a_firstHalf, a_secondHalf, a_wholeOf, a_begun, a_fact, a_open, a_waitWhat, a_waitFrom, a_waitTo, a_callers, a_back, a_least))
    (h1 : ∀ w, w < 3 → v1 = nI w → gs_N g < 10 → ∀ wd, gx_C (gs_app g w) f_present (nI (gs_N g + 1)) a_kindOf a_lengthOf a_symbolOf wd → post (nI (gs_N g + 1)) (f_present, (nI (gs_N g + 1)), f_keptLength, f_pairs, f_first, f_waiting, a_kindOf, a_lengthOf, a_symbolOf, wd, a_kept, a_made, a_other, a_byLength, a_above, a_firstHalf, a_secondHalf, a_wholeOf, a_begun, a_fact, a_open, a_waitWhat, a_waitFrom, a_waitTo, a_callers, a_back, a_least)) : wpX_write post (f_present, f_n, f_keptLength, f_pairs, f_first, f_waiting, a_kindOf, a_lengthOf, a_symbolOf, a_word, a_kept, a_made, a_other, a_byLength, a_above, a_firstHalf, a_secondHalf, a_wholeOf, a_begun, a_fact, a_open, a_waitWhat, a_waitFrom, a_waitTo, a_callers, a_back, a_least) v1 := by
  have hN := gs_N10 C.1
  refine br_c (fun c => h0 (fun ⟨w, hw, e⟩ => by rw [e] at c; exact nI_pos (by omega) c)) (fun c => ?_)
  obtain ⟨w, hw2, e⟩ := nI_of c
  refine pk_lt w 3 (fun hw => ?_) (fun hw => h0 (fun ⟨w', hw', e'⟩ => ?_)) e
  · refine pk_lt (gs_N g) 10 (fun hn => And.intro (by rw [C.2.1]; exact vp_in_nI hn (by decide)) ?_) (fun hn => hf ⟨w, hw, e⟩ (by omega)) C.2.1
    rw [e, gb_nb (by omega), C.2.1, nI_clamp (by omega)]
    refine nm_e (nm_r (nI_1 _) (h1 w hw e hn _ ⟨⟨C.1.1, C.1.2.1, C.1.2.2.1, fun i hi => ?_, hn⟩, rfl, C.2.2.1, C.2.2.2.1, C.2.2.2.2.1, C.2.2.2.2.2.1, fun i hi => ?_, C.2.2.2.2.2.2.2⟩))
    · have hi' : i < gs_N g + 1 := hi
      show (if i = gs_N g then w else gs_W g i) < 3
      split
      · exact hw
      · exact gs_W3 C.1 (by omega)
    · have hi' : i < gs_N g + 1 := hi
      show upd a_word (gs_N g) (nI w) i = nI (if i = gs_N g then w else gs_W g i)
      by_cases ei : i = gs_N g
      · rw [if_pos ei, ei, pk_us]
      · rw [if_neg ei, pk_un ei]; exact C.2.2.2.2.2.2.1 i (by omega)
  · rw [e, nI_eq hw2 (by omega)] at e'
    omega
theorem gx_cut (C : gx_C g f_present f_n a_kindOf a_lengthOf a_symbolOf a_word) {v1 : Int32} {post : Int32 → SX → Prop} (h0 : ¬ (∃ m, m ≤ 10 ∧ v1 = nI m) → post (-1) (f_present, f_n, f_keptLength, f_pairs, f_first, f_waiting, a_kindOf, a_lengthOf, a_symbolOf, a_word, a_kept, a_made, a_other, a_byLength, a_above, a_firstHalf, a_secondHalf, a_wholeOf, a_begun, a_fact, a_open, a_waitWhat, a_waitFrom, a_waitTo, a_callers, a_back, a_least))
    (h1 : ∀ m, m ≤ 10 → v1 = nI m → gx_C (gs_len g (gs_N g - m)) f_present (nI (gs_N g - m)) a_kindOf a_lengthOf a_symbolOf a_word → post (nI (gs_N g - m)) (f_present, (nI (gs_N g - m)), f_keptLength, f_pairs, f_first, f_waiting, a_kindOf, a_lengthOf, a_symbolOf, a_word, a_kept, a_made, a_other, a_byLength, a_above, a_firstHalf, a_secondHalf, a_wholeOf, a_begun, a_fact, a_open, a_waitWhat, a_waitFrom, a_waitTo, a_callers, a_back, a_least)) : wpX_cut post (f_present, f_n, f_keptLength, f_pairs, f_first, f_waiting, a_kindOf, a_lengthOf, a_symbolOf, a_word, a_kept, a_made, a_other, a_byLength, a_above, a_firstHalf, a_secondHalf, a_wholeOf, a_begun, a_fact, a_open, a_waitWhat, a_waitFrom, a_waitTo, a_callers, a_back, a_least) v1 := by
  have hN := gs_N10 C.1
  refine br_c (fun c => h0 (fun ⟨w, hw, e⟩ => by rw [e] at c; exact nI_pos (by omega) c)) (fun c => ?_)
  obtain ⟨m, hm2, e⟩ := nI_of c
  refine pk_le m 10 (fun hm => ?_) (fun hm => h0 (fun ⟨m', hm', e'⟩ => ?_)) e
  · have H := h1 m hm e ⟨⟨C.1.1, C.1.2.1, C.1.2.2.1, fun i hi => gs_W3 C.1 (by have hi' : i < gs_N g - m := hi; omega), show gs_N g - m ≤ 10 by omega⟩, rfl, C.2.2.1, C.2.2.2.1, C.2.2.2.2.1, C.2.2.2.2.2.1, fun i hi => C.2.2.2.2.2.2.1 i (by have hi' : i < gs_N g - m := hi; omega), C.2.2.2.2.2.2.2⟩
    refine pk_le m (gs_N g) (fun hmn => nm_r (e' := nI (gs_N g - m)) (by rw [C.2.1, e, pk_sub hmn]) H) (fun hmn => ?_) e C.2.1
    rw [show gs_N g - m = 0 by omega] at H
    exact H
  · rw [e, nI_eq hm2 (by omega)] at e'
    omega
end
section
variable {g : gs_G} {h_size h_many h_grown : Int32} {b_there b_kinds b_lengths b_parts b_word b_list b_made b_least : Nat → Int32}
theorem gy_rule (ok : gs_ok g) (R : gy_R g b_there b_kinds b_lengths b_parts) {v1 v2 v3 : Int32} {post : Int32 → SY → Prop} (h0 : ¬ gs_vr v1 v2 v3 → post (-1) (h_size, h_many, h_grown, b_there, b_kinds, b_lengths, b_parts, b_word, b_list, b_made, b_least))
    (hf : gs_vr v1 v2 v3 → (∀ r, r < 16 → gs_H g r = true) → post (-2) (h_size, h_many, h_grown, b_there, b_kinds, b_lengths, b_parts, b_word, b_list, b_made, b_least))
    (hn : ∀ k l r, k < 5 → l ≤ 3 → v1 = nI k → v2 = nI l → ¬ v3 < 0 → v3 < (1 : Int32) <<< ((3 * v2) &&& 31) → r < 16 → gs_H g r = false → (∀ r', r' < r → gs_H g r' = true) → ∀ th ki le pa, gy_R (gs_set g r k l (gs_sy v3)) th ki le pa → post (nI r) (h_size, h_many, h_grown, th, ki, le, pa, b_word, b_list, b_made, b_least)) :
    wpY_rule post (h_size, h_many, h_grown, b_there, b_kinds, b_lengths, b_parts, b_word, b_list, b_made, b_least) v1 v2 v3 := by
  refine br_c (fun c => h0 (fun ⟨k, _, hk, _, ek, _⟩ => gs_nr5 (Or.inl c) hk ek)) (fun c1 => ?_)
  obtain ⟨k, hk2, ek⟩ := nI_of c1
  refine pk_lt 4 k (fun c => h0 (fun ⟨k', _, hk', _, ek', _⟩ => ?_)) (fun hk4 => ?_) rfl ek
  · rw [ek, nI_eq hk2 (by omega)] at ek'
    omega
  have hk : k < 5 := by omega
  refine br_c (fun c => h0 (fun ⟨_, l, _, hl, _, el, _⟩ => by rw [el] at c; exact nI_pos (by omega) c)) (fun c2 => ?_)
  obtain ⟨l, hl2, el⟩ := nI_of c2
  refine br_c (fun c => h0 (fun ⟨_, l, _, hl, _, el, _⟩ => gs_nr3 c hl el)) (fun c3 => ?_)
  have hl : l ≤ 3 := by
    apply Classical.byContradiction
    intro hno
    rw [el] at c3
    exact c3 (nI_lt (a := 3) (by omega) hl2)
  refine br_c (fun c => h0 (fun ⟨_, _, _, _, _, _, d, _⟩ => d c)) (fun c4 => br_c (fun c5 => ?_) (fun c5 => h0 (fun ⟨_, _, _, _, _, _, _, d⟩ => c5 d)))
  have vr : gs_vr v1 v2 v3 := ⟨k, l, hk, hl, ek, el, c4, c5⟩
  rcases gs_free g with full | ⟨r0, hr0, hh0, hlow⟩
  · refine gl_ex (fun n r (_ : Unit) => wY_rule_36 post v1 v2 v3 h_size h_many h_grown b_there b_kinds b_lengths b_parts b_word b_list b_made b_least n (nI r)) (fun _ _ => True) 16 0 () (by omega) trivial (fun n _ _ => br_t (nI_le (a := 16) (by omega) (by omega)) (hf vr full)) ?_
    intro n r _ hr _ go
    refine br_f (nI_ge (b := 16) (by omega) (by omega)) (And.intro (vp_in_nI hr (by decide)) ?_)
    rw [nI_clamp (by omega), R.1 r hr, full r hr]
    exact br_f gb_10 (nm_r (nI_1 r) (go () trivial))
  · refine gl_ex (fun n r (_ : Unit) => wY_rule_36 post v1 v2 v3 h_size h_many h_grown b_there b_kinds b_lengths b_parts b_word b_list b_made b_least n (nI r)) (fun _ _ => True) r0 0 () (by omega) trivial ?_ ?_
    · intro n _ _
      have hin : vp_in (nI r0) 16 := vp_in_nI hr0 (by decide)
      refine br_f (nI_ge (b := 16) (by omega) (by omega)) (And.intro hin ?_)
      rw [nI_clamp (by omega), R.1 r0 hr0, hh0]
      refine br_t rfl (And.intro hin ?_)
      rw [gb_z1]
      refine nm_e (And.intro hin (nm_e (And.intro hin (nm_e (And.intro hin (nm_e (hn k l r0 hk hl ek el c4 c5 hr0 hh0 hlow _ _ _ _ ⟨fun r hr => ?_, fun r hr => ?_, fun r hr => ?_, fun r d hr hd => ?_⟩)))))))
      · show upd b_there r0 1 r = if (if r = r0 then true else gs_H g r) = true then 1 else 0
        by_cases e : r = r0
        · rw [if_pos e, e, pk_us]; rfl
        · rw [if_neg e, pk_un e]; exact R.1 r hr
      · show upd b_kinds r0 v1 r = nI (if r = r0 then k else gs_K g r)
        by_cases e : r = r0
        · rw [if_pos e, e, pk_us]; exact ek
        · rw [if_neg e, pk_un e]; exact R.2.1 r hr
      · show upd b_lengths r0 v2 r = nI (if r = r0 then l else gs_L g r)
        by_cases e : r = r0
        · rw [if_pos e, e, pk_us]; exact el
        · rw [if_neg e, pk_un e]; exact R.2.2.1 r hr
      · show ((upd b_parts r0 v3 r >>> ((3 * nI d) &&& 31)) &&& 7) = nI (if r = r0 then gs_sy v3 d else gs_S g r d)
        by_cases e : r = r0
        · rw [if_pos e, e, pk_us]; exact gs_sy_e v3 d
        · rw [if_neg e, pk_un e]; exact R.2.2.2 r d hr hd
    · intro n r _ hr _ go
      refine br_f (nI_ge (b := 16) (by omega) (by omega)) (And.intro (vp_in_nI (by omega) (by decide)) ?_)
      rw [nI_clamp (by omega), R.1 r (by omega), hlow r hr]
      exact br_f gb_10 (nm_r (nI_1 r) (go () trivial))
theorem gy_drop (R : gy_R g b_there b_kinds b_lengths b_parts) {v1 : Int32} {post : Int32 → SY → Prop} (h0 : ¬ (∃ r, r < 16 ∧ v1 = nI r ∧ gs_H g r = true) → post 0 (h_size, h_many, h_grown, b_there, b_kinds, b_lengths, b_parts, b_word, b_list, b_made, b_least))
    (h1 : ∀ r, r < 16 → v1 = nI r → gs_H g r = true → ∀ th, gy_R (gs_clr g r) th b_kinds b_lengths b_parts → post 1 (h_size, h_many, h_grown, th, b_kinds, b_lengths, b_parts, b_word, b_list, b_made, b_least)) : wpY_drop post (h_size, h_many, h_grown, b_there, b_kinds, b_lengths, b_parts, b_word, b_list, b_made, b_least) v1 := by
  refine br_c (fun c => h0 (fun ⟨r, hr, e, _⟩ => by rw [e] at c; exact nI_pos (by omega) c)) (fun c => ?_)
  obtain ⟨r, hr2, e⟩ := nI_of c
  refine pk_lt 15 r (fun h => h0 (fun ⟨r', hr', e', _⟩ => ?_)) (fun h => ?_) rfl e
  · rw [e, nI_eq hr2 (by omega)] at e'
    omega
  · have hr : r < 16 := by omega
    refine And.intro (by rw [e]; exact vp_in_nI hr (by decide)) ?_
    rw [e, nI_clamp (by omega), R.1 r hr]
    by_cases hh : gs_H g r = true
    · rw [if_pos hh]
      refine br_f gb_10 (And.intro (vp_in_nI hr (by decide)) ?_)
      rw [gb_z0]
      refine nm_e (h1 r hr e hh _ ⟨fun r' hr' => ?_, R.2.1, R.2.2.1, R.2.2.2⟩)
      show upd b_there r 0 r' = if (if r' = r then false else gs_H g r') = true then 1 else 0
      by_cases e1 : r' = r
      · rw [if_pos e1, e1, pk_us]; rfl
      · rw [if_neg e1, pk_un e1]; exact R.1 r' hr'
    · rw [if_neg hh]
      refine br_t rfl (h0 (fun ⟨r', hr', e', hh'⟩ => ?_))
      rw [e, nI_eq hr2 (by omega)] at e'
      rw [← e'] at hh'
      exact hh hh'
theorem gy_rules (R : gy_R g b_there b_kinds b_lengths b_parts) {post : Int32 → Prop} (h : ∀ x, (∀ j, bt x j = true ↔ j < 16 ∧ gs_H g j = true) → post x) : wpY_rules post (h_size, h_many, h_grown, b_there, b_kinds, b_lengths, b_parts, b_word, b_list, b_made, b_least) := by
  refine gl_ex (fun n r x => wY_rules_4 post h_size h_many h_grown b_there b_kinds b_lengths b_parts b_word b_list b_made b_least n x (nI r)) (fun r x => ∀ j, bt x j = true ↔ j < r ∧ gs_H g j = true) 16 0 0 (by omega) ?_ (fun n x y => br_t (nI_le (a := 16) (by omega) (by omega)) (h x y)) ?_
  · intro j
    rw [b_0]
    exact ⟨fun d => absurd d (by decide), fun d => absurd d.1 (by omega)⟩
  · intro n r x hr y go
    refine br_f (nI_ge (b := 16) (by omega) (by omega)) (And.intro (vp_in_nI hr (by decide)) ?_)
    rw [nI_clamp (by omega), R.1 r hr]
    by_cases hh : gs_H g r = true
    · rw [if_pos hh]
      refine br_f gb_10 (nm_e (nm_r (nI_1 r) (go _ (fun j => ?_))))
      rw [b_or, Bool.or_eq_true, y j]
      by_cases hj : j < 32
      · rw [gb_one (by omega) hj, decide_eq_true_eq]
        constructor
        · rintro (d | d)
          · exact ⟨by omega, d.2⟩
          · rw [d]; exact ⟨by omega, hh⟩
        · rintro ⟨d1, d2⟩
          by_cases e : j = r
          · exact Or.inr e
          · exact Or.inl ⟨by omega, d2⟩
      · rw [b_big (x := (1 : Int32) <<< (nI r &&& 31)) (by omega)]
        constructor
        · rintro (d | d)
          · exact ⟨by omega, d.2⟩
          · exact absurd d (by decide)
        · rintro ⟨d1, d2⟩
          omega
    · rw [if_neg hh]
      refine br_t rfl (nm_r (nI_1 r) (go x (fun j => (y j).trans ⟨fun d => ⟨by omega, d.2⟩, fun d => ⟨?_, d.2⟩⟩)))
      have d1 := d.1
      by_cases e : j = r
      · rw [e] at d; exact absurd d.2 hh
      · omega
theorem gy_write (C : gy_C g h_size b_there b_kinds b_lengths b_parts b_word) {v1 : Int32} {post : Int32 → SY → Prop} (h0 : ¬ (∃ w, w < 3 ∧ v1 = nI w) → post (-1) (h_size, h_many, h_grown, b_there, b_kinds, b_lengths, b_parts, b_word, b_list, b_made, b_least)) (hf : (∃ w, w < 3 ∧ v1 = nI w) → gs_N g = 10 → post (-2) (h_size, h_many, h_grown, b_there, b_kinds, b_lengths, b_parts, b_word, b_list, b_made, b_least))
    (h1 : ∀ w, w < 3 → v1 = nI w → gs_N g < 10 → ∀ wd, gy_w (gs_app g w) wd → post (nI (gs_N g + 1)) ((nI (gs_N g + 1)), h_many, h_grown, b_there, b_kinds, b_lengths, b_parts, wd, b_list, b_made, b_least)) : wpY_write post (h_size, h_many, h_grown, b_there, b_kinds, b_lengths, b_parts, b_word, b_list, b_made, b_least) v1 := by
  have hN := gs_N10 C.1
  refine br_c (fun c => h0 (fun ⟨w, hw, e⟩ => by rw [e] at c; exact nI_pos (by omega) c)) (fun c => ?_)
  obtain ⟨w, hw2, e⟩ := nI_of c
  refine pk_le w 2 (fun hw => ?_) (fun hw => h0 (fun ⟨w', hw', e'⟩ => ?_)) e
  · refine pk_lt (gs_N g) 10 (fun hn => And.intro (by rw [C.2.1]; exact vp_in_nI hn (by decide)) ?_) (fun hn => hf ⟨w, by omega, e⟩ (by omega)) C.2.1
    rw [C.2.1, nI_clamp (by omega)]
    refine nm_e (nm_r (nI_1 _) (h1 w (by omega) e hn _ (fun i hi => ?_)))
    have hi' : i < gs_N g + 1 := hi
    show upd b_word (gs_N g) v1 i = nI (if i = gs_N g then w else gs_W g i)
    by_cases ei : i = gs_N g
    · rw [if_pos ei, ei, pk_us]; exact e
    · rw [if_neg ei, pk_un ei]; exact C.2.2.2 i (by omega)
  · rw [e, nI_eq hw2 (by omega)] at e'
    omega
theorem gy_cut (C : gy_C g h_size b_there b_kinds b_lengths b_parts b_word) {v1 : Int32} {post : Int32 → SY → Prop} (h0 : ¬ (∃ m, m ≤ 10 ∧ v1 = nI m) → post (-1) (h_size, h_many, h_grown, b_there, b_kinds, b_lengths, b_parts, b_word, b_list, b_made, b_least))
    (h1 : ∀ m, m ≤ 10 → v1 = nI m → gy_w (gs_len g (gs_N g - m)) b_word → post (nI (gs_N g - m)) ((nI (gs_N g - m)), h_many, h_grown, b_there, b_kinds, b_lengths, b_parts, b_word, b_list, b_made, b_least)) : wpY_cut post (h_size, h_many, h_grown, b_there, b_kinds, b_lengths, b_parts, b_word, b_list, b_made, b_least) v1 := by
  have hN := gs_N10 C.1
  refine br_c (fun c => h0 (fun ⟨w, hw, e⟩ => by rw [e] at c; exact nI_pos (by omega) c)) (fun c => ?_)
  obtain ⟨m, hm2, e⟩ := nI_of c
  refine pk_le m 10 (fun hm => ?_) (fun hm => h0 (fun ⟨m', hm', e'⟩ => ?_)) e
  · have H := h1 m hm e (fun i hi => C.2.2.2 i (by have hi' : i < gs_N g - m := hi; omega))
    refine pk_le (gs_N g) m (fun hmn => ?_) (fun hmn => nm_r (e' := nI (gs_N g - m)) (by rw [C.2.1, e, pk_sub (by omega)]) H) C.2.1 e
    rw [show gs_N g - m = 0 by omega] at H
    exact H
  · rw [e, nI_eq hm2 (by omega)] at e'
    omega
end
end
section
/-! the relation, and what is owed -/
def gz_C (g : gs_G) (f_present f_n : Int32) (a_kindOf a_lengthOf a_symbolOf a_word : Nat → Int32) (h_size : Int32) (b_there b_kinds b_lengths b_parts b_word : Nat → Int32) : Prop :=
  gx_C g f_present f_n a_kindOf a_lengthOf a_symbolOf a_word ∧ gy_C g h_size b_there b_kinds b_lengths b_parts b_word
def i_Rel (_ : Nat) (u : SX) (v : SY) : Prop := match u with
  | (f_present, f_n, f_keptLength, f_pairs, f_first, f_waiting, a_kindOf, a_lengthOf, a_symbolOf, a_word, a_kept, a_made, a_other, a_byLength, a_above, a_firstHalf, a_secondHalf, a_wholeOf, a_begun, a_fact, a_open, a_waitWhat, a_waitFrom, a_waitTo, a_callers, a_back, a_least) => match v with
    | (h_size, h_many, h_grown, b_there, b_kinds, b_lengths, b_parts, b_word, b_list, b_made, b_least) => ∃ g : gs_G, gz_C g f_present f_n a_kindOf a_lengthOf a_symbolOf a_word h_size b_there b_kinds b_lengths b_parts b_word
theorem i_up {k : Nat} {u : SX} {v : SY} (h : i_Rel k u v) : i_Rel (k + 5) u v := h
theorem gz_in {k : Nat} {f_present f_n f_keptLength f_pairs f_first f_waiting : Int32} {a_kindOf a_lengthOf a_symbolOf a_word a_kept a_made a_other a_byLength a_above a_firstHalf a_secondHalf a_wholeOf a_begun a_fact a_open a_waitWhat a_waitFrom a_waitTo a_callers a_back a_least : Nat → Int32} {h_size h_many h_grown : Int32} {b_there b_kinds b_lengths b_parts b_word b_list b_made b_least : Nat → Int32} {g : gs_G} (X : gx_C g f_present f_n a_kindOf a_lengthOf a_symbolOf a_word) (Y : gy_C g h_size b_there b_kinds b_lengths b_parts b_word) : i_Rel k (f_present, f_n, f_keptLength, f_pairs, f_first, f_waiting, a_kindOf, a_lengthOf, a_symbolOf, a_word, a_kept, a_made, a_other, a_byLength, a_above, a_firstHalf, a_secondHalf, a_wholeOf, a_begun, a_fact, a_open, a_waitWhat, a_waitFrom, a_waitTo, a_callers, a_back, a_least) (h_size, h_many, h_grown, b_there, b_kinds, b_lengths, b_parts, b_word, b_list, b_made, b_least) := ⟨g, X, Y⟩
theorem gz_el {P : SX → SY → Prop} {k : Nat} {u : SX} {v : SY}
    (h : ∀ (f_present f_n f_keptLength f_pairs f_first f_waiting : Int32) (a_kindOf a_lengthOf a_symbolOf a_word a_kept a_made a_other a_byLength a_above a_firstHalf a_secondHalf a_wholeOf a_begun a_fact a_open a_waitWhat a_waitFrom a_waitTo a_callers a_back a_least : Nat → Int32) (h_size h_many h_grown : Int32) (b_there b_kinds b_lengths b_parts b_word b_list b_made b_least : Nat → Int32) (g : gs_G), gx_C g f_present f_n a_kindOf a_lengthOf a_symbolOf a_word → gy_C g h_size b_there b_kinds b_lengths b_parts b_word → P (f_present, f_n, f_keptLength, f_pairs, f_first, f_waiting, a_kindOf, a_lengthOf, a_symbolOf, a_word, a_kept, a_made, a_other, a_byLength, a_above, a_firstHalf, a_secondHalf, a_wholeOf, a_begun, a_fact, a_open, a_waitWhat, a_waitFrom, a_waitTo, a_callers, a_back, a_least) (h_size, h_many, h_grown, b_there, b_kinds, b_lengths, b_parts, b_word, b_list, b_made, b_least))
    (I : i_Rel k u v) : P u v := by
  obtain ⟨f_present, f_n, f_keptLength, f_pairs, f_first, f_waiting, a_kindOf, a_lengthOf, a_symbolOf, a_word, a_kept, a_made, a_other, a_byLength, a_above, a_firstHalf, a_secondHalf, a_wholeOf, a_begun, a_fact, a_open, a_waitWhat, a_waitFrom, a_waitTo, a_callers, a_back, a_least⟩ := u
  obtain ⟨h_size, h_many, h_grown, b_there, b_kinds, b_lengths, b_parts, b_word, b_list, b_made, b_least⟩ := v
  obtain ⟨g, X, Y⟩ := I
  exact h _ _ _ _ _ _ _ _ _ _ _ _ _ _ _ _ _ _ _ _ _ _ _ _ _ _ _ _ _ _ _ _ _ _ _ _ _ _ g X Y
theorem i_vc0 : wpX_init (fun u => wpY_init (fun v => i_Rel 0 u v)) := by
  unfold wpX_init wpY_init
  refine gz_in (g := (fun _ => false, fun _ => 0, fun _ => 0, fun _ _ => 0, fun _ => 0, 0)) ⟨⟨?_, ?_, ?_, ?_, ?_⟩, rfl, fun r _ => b_0 r, fun _ _ => rfl, fun _ _ => rfl, fun _ _ _ _ => rfl, fun i hi => absurd hi (Nat.not_lt_zero i), fun j _ => b_0 j⟩ ⟨⟨?_, ?_, ?_, ?_, ?_⟩, rfl, ⟨fun _ _ => rfl, fun _ _ => rfl, fun _ _ => rfl, fun r d _ hd => ?_⟩, fun i hi => absurd hi (Nat.not_lt_zero i)⟩
  · exact fun _ _ => show 0 < 5 by omega
  · exact fun _ _ => show 0 ≤ 3 by omega
  · exact fun _ _ _ _ => show 0 < 8 by omega
  · exact fun i hi => absurd hi (Nat.not_lt_zero i)
  · exact Nat.zero_le 10
  · exact fun _ _ => show 0 < 5 by omega
  · exact fun _ _ => show 0 ≤ 3 by omega
  · exact fun _ _ _ _ => show 0 < 8 by omega
  · exact fun i hi => absurd hi (Nat.not_lt_zero i)
  · exact Nat.zero_le 10
  · show (((0 : Int32) >>> ((3 * nI d) &&& 31)) &&& 7) = nI 0
    exact (by decide +kernel : ∀ d, d < 3 → (((0 : Int32) >>> ((3 * nI d) &&& 31)) &&& 7) = nI 0) d hd
theorem gz_bits {x y : Int32} (h : ∀ j, bt x j = true ↔ bt y j = true) : x = y := by
  apply b_ext
  intro j _
  by_cases c : bt y j = true
  · rw [c]; exact (h j).mpr c
  · rw [ts_nt c]; exact ts_nt (fun d => c ((h j).mp d))
theorem i_vc_rule {k : Nat} {u : SX} {v : SY} (I : i_Rel k u v) (hk : k + 5 ≤ 2560) (v1 : Int32) (v2 : Int32) (v3 : Int32) : wpX_rule (fun r u' => wpY_rule (fun r' v' => r' = r ∧ i_Rel (k + 5) u' v') v v1 v2 v3) u v1 v2 v3 := by
  refine gz_el (P := fun u v => wpX_rule (fun r u' => wpY_rule (fun r' v' => r' = r ∧ i_Rel (k + 5) u' v') v v1 v2 v3) u v1 v2 v3) ?_ I
  intro f_present f_n f_keptLength f_pairs f_first f_waiting a_kindOf a_lengthOf a_symbolOf a_word a_kept a_made a_other a_byLength a_above a_firstHalf a_secondHalf a_wholeOf a_begun a_fact a_open a_waitWhat a_waitFrom a_waitTo a_callers a_back a_least h_size h_many h_grown b_there b_kinds b_lengths b_parts b_word b_list b_made b_least g X Y
  refine gx_rule X (fun no => gy_rule Y.1 Y.2.2.1 (fun _ => ⟨rfl, gz_in X Y⟩) (fun c _ => absurd c no) (fun k l r hk hl ek el c4 c5 _ _ _ _ _ _ _ _ => absurd ⟨k, l, hk, hl, ek, el, c4, c5⟩ no)) (fun vr full => gy_rule Y.1 Y.2.2.1 (fun no => absurd vr no) (fun _ _ => ⟨rfl, gz_in X Y⟩) (fun k l r _ _ _ _ _ _ hr hh _ _ _ _ _ _ => absurd (hh.symm.trans (full r hr)) (by decide))) (fun k l r hk hl ek el c4 c5 hr hh low fp ka la sa X' => ?_)
  refine gy_rule Y.1 Y.2.2.1 (fun no => absurd ⟨k, l, hk, hl, ek, el, c4, c5⟩ no) (fun _ full => absurd (hh.symm.trans (full r hr)) (by decide)) (fun k' l' r' hk' hl' ek' el' _ _ hr' hh' low' th ki le pa R' => ?_)
  have e1 : k' = k := (nI_eq (by omega) (by omega)).mp (ek'.symm.trans ek)
  have e2 : l' = l := (nI_eq (by omega) (by omega)).mp (el'.symm.trans el)
  have n1 : ¬ r' < r := fun c => absurd (hh'.symm.trans (low r' c)) (by decide)
  have n2 : ¬ r < r' := fun c => absurd (hh.symm.trans (low' r c)) (by decide)
  have e3 : r' = r := by omega
  subst e1 e2 e3
  exact ⟨rfl, gz_in X' ⟨X'.1, Y.2.1, R', Y.2.2.2⟩⟩
theorem i_vc_drop {k : Nat} {u : SX} {v : SY} (I : i_Rel k u v) (hk : k + 5 ≤ 2560) (v1 : Int32) : wpX_drop (fun r u' => wpY_drop (fun r' v' => r' = r ∧ i_Rel (k + 5) u' v') v v1) u v1 := by
  refine gz_el (P := fun u v => wpX_drop (fun r u' => wpY_drop (fun r' v' => r' = r ∧ i_Rel (k + 5) u' v') v v1) u v1) ?_ I
  intro f_present f_n f_keptLength f_pairs f_first f_waiting a_kindOf a_lengthOf a_symbolOf a_word a_kept a_made a_other a_byLength a_above a_firstHalf a_secondHalf a_wholeOf a_begun a_fact a_open a_waitWhat a_waitFrom a_waitTo a_callers a_back a_least h_size h_many h_grown b_there b_kinds b_lengths b_parts b_word b_list b_made b_least g X Y
  refine gx_drop X (fun no => gy_drop Y.2.2.1 (fun _ => ⟨rfl, gz_in X Y⟩) (fun r hr er hh _ _ => absurd ⟨r, hr, er, hh⟩ no)) (fun r hr er hh fp X' => gy_drop Y.2.2.1 (fun no => absurd ⟨r, hr, er, hh⟩ no) (fun r' hr' er' _ th R' => ?_))
  have e : r' = r := (nI_eq (by omega) (by omega)).mp (er'.symm.trans er)
  subst e
  exact ⟨rfl, gz_in X' ⟨X'.1, Y.2.1, R', Y.2.2.2⟩⟩
theorem i_vc_rules {k : Nat} {u : SX} {v : SY} (I : i_Rel k u v) (hk : k + 5 ≤ 2560) : wpX_rules (fun r => wpY_rules (fun r' => r' = r ∧ i_Rel (k + 5) u v) v) u := by
  refine gz_el (P := fun u v => wpX_rules (fun r => wpY_rules (fun r' => r' = r ∧ i_Rel (k + 5) u v) v) u) ?_ I
  intro f_present f_n f_keptLength f_pairs f_first f_waiting a_kindOf a_lengthOf a_symbolOf a_word a_kept a_made a_other a_byLength a_above a_firstHalf a_secondHalf a_wholeOf a_begun a_fact a_open a_waitWhat a_waitFrom a_waitTo a_callers a_back a_least h_size h_many h_grown b_there b_kinds b_lengths b_parts b_word b_list b_made b_least g X Y
  refine gy_rules Y.2.2.1 (fun x hx => ⟨?_, gz_in X Y⟩)
  apply b_ext
  intro j hj
  by_cases c : j < 16
  · rw [X.2.2.1 j c]
    by_cases d : gs_H g j = true
    · rw [d]; exact (hx j).mpr ⟨c, d⟩
    · rw [ts_nt d]; exact ts_nt (fun z => d ((hx j).mp z).2)
  · rw [X.2.2.2.2.2.2.2 j (by omega)]
    exact ts_nt (fun z => c ((hx j).mp z).1)
theorem i_vc_write {k : Nat} {u : SX} {v : SY} (I : i_Rel k u v) (hk : k + 5 ≤ 2560) (v1 : Int32) : wpX_write (fun r u' => wpY_write (fun r' v' => r' = r ∧ i_Rel (k + 5) u' v') v v1) u v1 := by
  refine gz_el (P := fun u v => wpX_write (fun r u' => wpY_write (fun r' v' => r' = r ∧ i_Rel (k + 5) u' v') v v1) u v1) ?_ I
  intro f_present f_n f_keptLength f_pairs f_first f_waiting a_kindOf a_lengthOf a_symbolOf a_word a_kept a_made a_other a_byLength a_above a_firstHalf a_secondHalf a_wholeOf a_begun a_fact a_open a_waitWhat a_waitFrom a_waitTo a_callers a_back a_least h_size h_many h_grown b_there b_kinds b_lengths b_parts b_word b_list b_made b_least g X Y
  refine gx_write X (fun no => gy_write Y (fun _ => ⟨rfl, gz_in X Y⟩) (fun c _ => absurd c no) (fun w hw e _ _ _ => absurd ⟨w, hw, e⟩ no)) (fun c n10 => gy_write Y (fun no => absurd c no) (fun _ _ => ⟨rfl, gz_in X Y⟩) (fun _ _ _ h _ _ => absurd h (by omega))) (fun w hw e hn wd X' => gy_write Y (fun no => absurd ⟨w, hw, e⟩ no) (fun _ h => absurd h (by omega)) (fun w' hw' e' _ wd' W' => ?_))
  have ew : w' = w := (nI_eq (by omega) (by omega)).mp (e'.symm.trans e)
  subst ew
  exact ⟨rfl, gz_in X' ⟨X'.1, rfl, Y.2.2.1, W'⟩⟩
theorem i_vc_cut {k : Nat} {u : SX} {v : SY} (I : i_Rel k u v) (hk : k + 5 ≤ 2560) (v1 : Int32) : wpX_cut (fun r u' => wpY_cut (fun r' v' => r' = r ∧ i_Rel (k + 5) u' v') v v1) u v1 := by
  refine gz_el (P := fun u v => wpX_cut (fun r u' => wpY_cut (fun r' v' => r' = r ∧ i_Rel (k + 5) u' v') v v1) u v1) ?_ I
  intro f_present f_n f_keptLength f_pairs f_first f_waiting a_kindOf a_lengthOf a_symbolOf a_word a_kept a_made a_other a_byLength a_above a_firstHalf a_secondHalf a_wholeOf a_begun a_fact a_open a_waitWhat a_waitFrom a_waitTo a_callers a_back a_least h_size h_many h_grown b_there b_kinds b_lengths b_parts b_word b_list b_made b_least g X Y
  refine gx_cut X (fun no => gy_cut Y (fun _ => ⟨rfl, gz_in X Y⟩) (fun m hm e _ => absurd ⟨m, hm, e⟩ no)) (fun m hm e X' => gy_cut Y (fun no => absurd ⟨m, hm, e⟩ no) (fun m' hm' e' W' => ?_))
  have em : m' = m := (nI_eq (by omega) (by omega)).mp (e'.symm.trans e)
  subst em
  exact ⟨rfl, gz_in X' ⟨X'.1, rfl, Y.2.2.1, W'⟩⟩
theorem i_vc_makes {k : Nat} {u : SX} {v : SY} (I : i_Rel k u v) (hk : k + 5 ≤ 2560) (v1 : Int32) (v2 : Int32) : wpX_makes (fun r u' => wpY_makes (fun r' v' => r' = r ∧ i_Rel (k + 5) u' v') v v1 v2) u v1 v2 := by
  refine gz_el (P := fun u v => wpX_makes (fun r u' => wpY_makes (fun r' v' => r' = r ∧ i_Rel (k + 5) u' v') v v1 v2) u v1 v2) ?_ I
  intro f_present f_n f_keptLength f_pairs f_first f_waiting a_kindOf a_lengthOf a_symbolOf a_word a_kept a_made a_other a_byLength a_above a_firstHalf a_secondHalf a_wholeOf a_begun a_fact a_open a_waitWhat a_waitFrom a_waitTo a_callers a_back a_least h_size h_many h_grown b_there b_kinds b_lengths b_parts b_word b_list b_made b_least g X Y
  have eN := Y.2.1
  subst eN
  have hN := gs_N10 X.1
  refine gx_makes X (fun no => ?_) (fun e k he hk e1 e2 v z hz => ?_)
  · unfold wpY_makes
    exact gy_stretch Y (fun _ => And.intro (gb_nar (Or.inl rfl)) ⟨rfl, gz_in X Y⟩) (fun e k i j he hk hij hj e1 e2 e3 e4 _ _ _ _ => absurd ⟨e, k, i, j, he, hk, hij, hj, e1, e2, e3, e4⟩ no)
  · unfold wpY_makes
    refine gy_stretch Y (fun no => absurd ⟨e, k, 0, gs_N g, he, hk, Nat.zero_le _, Nat.le_refl _, e1, e2, rfl, rfl⟩ no) (fun e' k' i j he' hk' hij hj e1' e2' e3' e4' l b z' hz' => And.intro (gs_tf_nar hz') ?_)
    have ek : k' = k := (nI_eq (by omega) (by omega)).mp (e2'.symm.trans e2)
    have ei : i = 0 := ((nI_eq (a := 0) (by omega) (by omega)).mp e3').symm
    have ej : j = gs_N g := ((nI_eq (by omega) (by omega)).mp e4').symm
    subst ek ei ej
    exact ⟨gs_tf_eq hz hz', gz_in X Y⟩
theorem i_vc_stretch {k : Nat} {u : SX} {v : SY} (I : i_Rel k u v) (hk : k + 5 ≤ 2560) (v1 : Int32) (v2 : Int32) (v3 : Int32) (v4 : Int32) : wpX_stretch (fun r u' => wpY_stretch (fun r' v' => r' = r ∧ i_Rel (k + 5) u' v') v v1 v2 v3 v4) u v1 v2 v3 v4 := by
  refine gz_el (P := fun u v => wpX_stretch (fun r u' => wpY_stretch (fun r' v' => r' = r ∧ i_Rel (k + 5) u' v') v v1 v2 v3 v4) u v1 v2 v3 v4) ?_ I
  intro f_present f_n f_keptLength f_pairs f_first f_waiting a_kindOf a_lengthOf a_symbolOf a_word a_kept a_made a_other a_byLength a_above a_firstHalf a_secondHalf a_wholeOf a_begun a_fact a_open a_waitWhat a_waitFrom a_waitTo a_callers a_back a_least h_size h_many h_grown b_there b_kinds b_lengths b_parts b_word b_list b_made b_least g X Y
  have hN := gs_N10 X.1
  refine gx_stretch X (fun no => gy_stretch Y (fun _ => ⟨rfl, gz_in X Y⟩) (fun e k i j he hk hij hj e1 e2 e3 e4 _ _ _ _ => absurd ⟨e, k, i, j, he, hk, hij, hj, e1, e2, e3, e4⟩ no)) (fun e k i j he hk hij hj e1 e2 e3 e4 v z hz => gy_stretch Y (fun no => absurd ⟨e, k, i, j, he, hk, hij, hj, e1, e2, e3, e4⟩ no) (fun e' k' i' j' he' hk' hij' hj' e1' e2' e3' e4' l b z' hz' => ?_))
  have ek : k' = k := (nI_eq (by omega) (by omega)).mp (e2'.symm.trans e2)
  have ei : i' = i := (nI_eq (by omega) (by omega)).mp (e3'.symm.trans e3)
  have ej : j' = j := (nI_eq (by omega) (by omega)).mp (e4'.symm.trans e4)
  subst ek ei ej
  exact ⟨gs_tf_eq hz hz', gz_in X Y⟩
theorem i_vc_agree {k : Nat} {u : SX} {v : SY} (I : i_Rel k u v) (hk : k + 5 ≤ 2560) (v1 : Int32) (v2 : Int32) : wpX_agree (fun r u' => wpY_agree (fun r' => r' = r ∧ i_Rel (k + 5) u' v) v v1 v2) u v1 v2 := by
  refine gz_el (P := fun u v => wpX_agree (fun r u' => wpY_agree (fun r' => r' = r ∧ i_Rel (k + 5) u' v) v v1 v2) u v1 v2) ?_ I
  intro f_present f_n f_keptLength f_pairs f_first f_waiting a_kindOf a_lengthOf a_symbolOf a_word a_kept a_made a_other a_byLength a_above a_firstHalf a_secondHalf a_wholeOf a_begun a_fact a_open a_waitWhat a_waitFrom a_waitTo a_callers a_back a_least h_size h_many h_grown b_there b_kinds b_lengths b_parts b_word b_list b_made b_least g X Y
  refine gx_agree X (fun no => ?_) (fun yes v o => ?_)
  · unfold wpY_agree
    exact gy_engine (fun c => br_t rfl ⟨rfl, gz_in X Y⟩) (fun e he ee => br_f gb_10 (gy_engine (fun c => br_t rfl ⟨rfl, gz_in X Y⟩) (fun f hf ef => absurd ⟨e, f, he, hf, ee, ef⟩ no)))
  · obtain ⟨e, f, he, hf, ee, ef⟩ := yes
    unfold wpY_agree
    exact gy_engine (fun c => absurd (gs_nr5 c he ee) id) (fun _ _ _ => br_f gb_10 (gy_engine (fun c => absurd (gs_nr5 c hf ef) id) (fun _ _ _ => br_f gb_10 ⟨rfl, gz_in X Y⟩)))
theorem i_vc_longest {k : Nat} {u : SX} {v : SY} (I : i_Rel k u v) (hk : k + 5 ≤ 2560) (v1 : Int32) : wpX_longest (fun r u' => wpY_longest (fun r' v' => r' = r ∧ i_Rel (k + 5) u' v') v v1) u v1 := by
  refine gz_el (P := fun u v => wpX_longest (fun r u' => wpY_longest (fun r' v' => r' = r ∧ i_Rel (k + 5) u' v') v v1) u v1) ?_ I
  intro f_present f_n f_keptLength f_pairs f_first f_waiting a_kindOf a_lengthOf a_symbolOf a_word a_kept a_made a_other a_byLength a_above a_firstHalf a_secondHalf a_wholeOf a_begun a_fact a_open a_waitWhat a_waitFrom a_waitTo a_callers a_back a_least h_size h_many h_grown b_there b_kinds b_lengths b_parts b_word b_list b_made b_least g X Y
  refine gx_longest X (fun c => gy_longest Y (fun _ => ⟨rfl, gz_in X Y⟩) (fun k hk ek _ _ _ _ => absurd (gs_nr5 c hk ek) id)) (fun k hk ek v r hr => gy_longest Y (fun c => absurd (gs_nr5 c hk ek) id) (fun k' hk' ek' l b r' hr' => ?_))
  have e : k' = k := (nI_eq (by omega) (by omega)).mp (ek'.symm.trans ek)
  subst e
  exact ⟨gs_mx_eq hr hr', gz_in X Y⟩
theorem i_vc_parts {k : Nat} {u : SX} {v : SY} (I : i_Rel k u v) (hk : k + 5 ≤ 2560) (v1 : Int32) : wpX_parts (fun r u' => wpY_parts (fun r' v' => r' = r ∧ i_Rel (k + 5) u' v') v v1) u v1 := by
  refine gz_el (P := fun u v => wpX_parts (fun r u' => wpY_parts (fun r' v' => r' = r ∧ i_Rel (k + 5) u' v') v v1) u v1) ?_ I
  intro f_present f_n f_keptLength f_pairs f_first f_waiting a_kindOf a_lengthOf a_symbolOf a_word a_kept a_made a_other a_byLength a_above a_firstHalf a_secondHalf a_wholeOf a_begun a_fact a_open a_waitWhat a_waitFrom a_waitTo a_callers a_back a_least h_size h_many h_grown b_there b_kinds b_lengths b_parts b_word b_list b_made b_least g X Y
  refine gx_parts X (fun c => gy_parts Y (fun _ => ⟨rfl, gz_in X Y⟩) (fun k hk ek _ _ _ _ => absurd (gs_nr5 c hk ek) id)) (fun k hk ek v r hr => gy_parts Y (fun c => absurd (gs_nr5 c hk ek) id) (fun k' hk' ek' l b r' hr' => ?_))
  have e : k' = k := (nI_eq (by omega) (by omega)).mp (ek'.symm.trans ek)
  subst e
  exact ⟨gs_pt_eq hr hr', gz_in X Y⟩
theorem i_vc_empty {k : Nat} {u : SX} {v : SY} (I : i_Rel k u v) (hk : k + 5 ≤ 2560) : wpX_empty (fun r => wpY_empty (fun r' v' => r' = r ∧ i_Rel (k + 5) u v') v) u := by
  refine gz_el (P := fun u v => wpX_empty (fun r => wpY_empty (fun r' v' => r' = r ∧ i_Rel (k + 5) u v') v) u) ?_ I
  intro f_present f_n f_keptLength f_pairs f_first f_waiting a_kindOf a_lengthOf a_symbolOf a_word a_kept a_made a_other a_byLength a_above a_firstHalf a_secondHalf a_wholeOf a_begun a_fact a_open a_waitWhat a_waitFrom a_waitTo a_callers a_back a_least h_size h_many h_grown b_there b_kinds b_lengths b_parts b_word b_list b_made b_least g X Y
  refine gx_empty X (fun x hx => gy_empty Y.1 Y.2.2.1 (fun x' b hx' => ⟨?_, gz_in X Y⟩))
  exact gz_bits (fun j => (hx' j).trans (hx j).symm)
theorem i_vc_able {k : Nat} {u : SX} {v : SY} (I : i_Rel k u v) (hk : k + 5 ≤ 2560) : wpX_able (fun r u' => wpY_able (fun r' v' => r' = r ∧ i_Rel (k + 5) u' v') v) u := by
  refine gz_el (P := fun u v => wpX_able (fun r u' => wpY_able (fun r' v' => r' = r ∧ i_Rel (k + 5) u' v') v) u) ?_ I
  intro f_present f_n f_keptLength f_pairs f_first f_waiting a_kindOf a_lengthOf a_symbolOf a_word a_kept a_made a_other a_byLength a_above a_firstHalf a_secondHalf a_wholeOf a_begun a_fact a_open a_waitWhat a_waitFrom a_waitTo a_callers a_back a_least h_size h_many h_grown b_there b_kinds b_lengths b_parts b_word b_list b_made b_least g X Y
  refine gx_able X (fun x a hx => gy_able Y.1 Y.2.2.1 (fun x' b hx' => ⟨?_, gz_in X Y⟩))
  exact gz_bits (fun j => (hx' j).trans (hx j).symm)
theorem i_vc_first {k : Nat} {u : SX} {v : SY} (I : i_Rel k u v) (hk : k + 5 ≤ 2560) (v1 : Int32) : wpX_first (fun r u' => wpY_first (fun r' v' => r' = r ∧ i_Rel (k + 5) u' v') v v1) u v1 := by
  refine gz_el (P := fun u v => wpX_first (fun r u' => wpY_first (fun r' v' => r' = r ∧ i_Rel (k + 5) u' v') v v1) u v1) ?_ I
  intro f_present f_n f_keptLength f_pairs f_first f_waiting a_kindOf a_lengthOf a_symbolOf a_word a_kept a_made a_other a_byLength a_above a_firstHalf a_secondHalf a_wholeOf a_begun a_fact a_open a_waitWhat a_waitFrom a_waitTo a_callers a_back a_least h_size h_many h_grown b_there b_kinds b_lengths b_parts b_word b_list b_made b_least g X Y
  refine gx_first X (fun c => gy_first Y.1 Y.2.2.1 (fun _ => ⟨rfl, gz_in X Y⟩) (fun k hk ek _ _ _ _ _ _ => absurd (gs_nr5 c hk ek) id)) (fun k hk ek xa xe a hxa hxe => gy_first Y.1 Y.2.2.1 (fun c => absurd (gs_nr5 c hk ek) id) (fun k' hk' ek' ya ye a' b' hya hye => ?_))
  have e : k' = k := (nI_eq (by omega) (by omega)).mp (ek'.symm.trans ek)
  subst e
  have e1 : ya = xa := gz_bits (fun j => (hya j).trans (hxa j).symm)
  have e2 : ye = xe := gz_bits (fun j => (hye j).trans (hxe j).symm)
  subst e1 e2
  exact ⟨by rw [gs_fit_full X.1], gz_in X Y⟩
theorem i_vc_shortest {k : Nat} {u : SX} {v : SY} (I : i_Rel k u v) (hk : k + 5 ≤ 2560) (v1 : Int32) : wpX_shortest (fun r u' => wpY_shortest (fun r' v' => r' = r ∧ i_Rel (k + 5) u' v') v v1) u v1 := by
  refine gz_el (P := fun u v => wpX_shortest (fun r u' => wpY_shortest (fun r' v' => r' = r ∧ i_Rel (k + 5) u' v') v v1) u v1) ?_ I
  intro f_present f_n f_keptLength f_pairs f_first f_waiting a_kindOf a_lengthOf a_symbolOf a_word a_kept a_made a_other a_byLength a_above a_firstHalf a_secondHalf a_wholeOf a_begun a_fact a_open a_waitWhat a_waitFrom a_waitTo a_callers a_back a_least h_size h_many h_grown b_there b_kinds b_lengths b_parts b_word b_list b_made b_least g X Y
  refine gx_shortest X (fun c => gy_shortest Y.1 Y.2.2.1 (fun _ _ => ⟨rfl, gz_in X Y⟩) (fun k hk ek _ => absurd (gs_nr5 c hk ek) id)) (fun k hk ek a => gy_shortest Y.1 Y.2.2.1 (fun c => absurd (gs_nr5 c hk ek) id) (fun k' hk' ek' a' => ?_))
  have e : k' = k := (nI_eq (by omega) (by omega)).mp (ek'.symm.trans ek)
  subst e
  exact ⟨rfl, gz_in X Y⟩
theorem i_vc_count {k : Nat} {u : SX} {v : SY} (I : i_Rel k u v) (hk : k + 5 ≤ 2560) (v1 : Int32) (v2 : Int32) : wpX_count (fun r u' => wpY_count (fun r' v' => r' = r ∧ i_Rel (k + 5) u' v') v v1 v2) u v1 v2 := by
  refine gz_el (P := fun u v => wpX_count (fun r u' => wpY_count (fun r' v' => r' = r ∧ i_Rel (k + 5) u' v') v v1 v2) u v1 v2) ?_ I
  intro f_present f_n f_keptLength f_pairs f_first f_waiting a_kindOf a_lengthOf a_symbolOf a_word a_kept a_made a_other a_byLength a_above a_firstHalf a_secondHalf a_wholeOf a_begun a_fact a_open a_waitWhat a_waitFrom a_waitTo a_callers a_back a_least h_size h_many h_grown b_there b_kinds b_lengths b_parts b_word b_list b_made b_least g X Y
  refine gx_count X (fun no => gy_count Y.1 Y.2.2.1 (fun _ => ⟨rfl, gz_in X Y⟩) (fun k n hk hn e1 e2 _ _ _ _ _ _ => absurd ⟨k, n, hk, hn, e1, e2⟩ no)) (fun k n hk hn e1 e2 v wd kp m hw hct => gy_count Y.1 Y.2.2.1 (fun no => absurd ⟨k, n, hk, hn, e1, e2⟩ no) (fun k' n' hk' hn' e1' e2' hm hg l b m' hct' => ?_))
  have ek : k' = k := (nI_eq (by omega) (by omega)).mp (e1'.symm.trans e1)
  have en : n' = n := (nI_eq (by omega) (by omega)).mp (e2'.symm.trans e2)
  subst ek en
  exact ⟨by rw [gs_ct_eq _ _ _ hct hct'], gz_in ⟨X.1, X.2.1, X.2.2.1, X.2.2.2.1, X.2.2.2.2.1, X.2.2.2.2.2.1, hw, X.2.2.2.2.2.2.2⟩ Y⟩
end
