section
/- rows pasted from the given starting texts PURE-ROWS and BITS -/
theorem pk_us {f : Nat → Int32} {k : Nat} {x : Int32} : upd f k x k = x := if_pos rfl
theorem pk_un {f : Nat → Int32} {k j : Nat} {x : Int32} (h : j ≠ k) : upd f k x j = f j := if_neg h
theorem pk_sub {a b : Nat} (h : b ≤ a) : nI a - nI b = nI (a - b) := by
  obtain ⟨c, rfl⟩ : ∃ c, a = c + b := ⟨a - b, by omega⟩
  rw [← nI_add, Int32.add_sub_cancel, Nat.add_sub_cancel]
theorem pk_m1 (n : Nat) : nI (n + 1) + (-1) = nI n := by
  rw [← nI_1, Int32.add_assoc, show (1 : Int32) + (-1) = 0 from rfl, Int32.add_zero]
theorem pk_mul (a b : Nat) : nI a * nI b = nI (a * b) := (Int32.ofNat_mul a b).symm
theorem pk_div {a d : Nat} (ha : a < 2 ^ 31) (h0 : 0 < d) (hd : d < 2 ^ 31) : nI a / nI d = nI (a / d) := by
  apply Int32.toInt_inj.mp
  rw [lg_idiv_nonneg (by rw [nI_toInt ha]; omega) (by rw [nI_toInt hd]; omega), nI_toInt ha, nI_toInt hd, nI_toInt (Nat.lt_of_le_of_lt (Nat.div_le_self a d) ha)]
  first | rfl | exact (Int.natCast_ediv _ _).symm
theorem pk_rem {a d : Nat} (ha : a < 2 ^ 31) (h0 : 0 < d) (hd : d < 2 ^ 31) : nI a - nI a / nI d * nI d = nI (a % d) := by
  rw [pk_div ha h0 hd, pk_mul, pk_sub (Nat.div_mul_le_self a d)]
  exact congrArg nI (by have := Nat.div_add_mod' a d; omega)
theorem pk_sub_toInt {a b : Nat} (ha : a < 2 ^ 30) (hb : b < 2 ^ 30) : (nI a - nI b).toInt = (a : Int) - b := by
  rw [Int32.toInt_sub, nI_toInt (by omega), nI_toInt (by omega)]
  exact Int.bmod_eq_of_le (by omega) (by omega)
theorem pk_ix (x : Int32) {n : Nat} (hn : n < 2 ^ 31) : x < 0 ∨ nI n ≤ x ∨ ∃ j : Nat, j < n ∧ x = nI j := by
  by_cases h : x < 0
  · exact Or.inl h
  · obtain ⟨j, hj, rfl⟩ := nI_of h
    by_cases h2 : j < n
    · exact Or.inr (Or.inr ⟨j, h2, rfl⟩)
    · exact Or.inr (Or.inl (nI_le (by omega) hj))
theorem pk_le {x y : Int32} {A B : Prop} (a b : Nat) (f : a ≤ b → A) (g : b < a → B) (hx : x = nI a := by rfl) (hy : y = nI b := by rfl) (ha : a < 2 ^ 31 := by omega) (hb : b < 2 ^ 31 := by omega) : (x ≤ y → A) ∧ (¬ x ≤ y → B) := by
  subst hx hy
  rw [nI_leI ha hb]
  exact ⟨f, fun z => g (by omega)⟩
theorem pk_lt {x y : Int32} {A B : Prop} (a b : Nat) (f : a < b → A) (g : b ≤ a → B) (hx : x = nI a := by rfl) (hy : y = nI b := by rfl) (ha : a < 2 ^ 31 := by omega) (hb : b < 2 ^ 31 := by omega) : (x < y → A) ∧ (¬ x < y → B) := by
  subst hx hy
  rw [nI_ltI ha hb]
  exact ⟨f, fun z => g (by omega)⟩
theorem pk_eq {x y : Int32} {A B : Prop} (a b : Nat) (f : a = b → A) (g : a ≠ b → B) (hx : x = nI a := by rfl) (hy : y = nI b := by rfl) (ha : a < 2 ^ 31 := by omega) (hb : b < 2 ^ 31 := by omega) : (x = y → A) ∧ (¬ x = y → B) := by
  subst hx hy
  rw [nI_eq ha hb]
  exact ⟨f, g⟩
theorem pk_in {x : Int32} (n N : Nat) (h : n < N) (hx : x = nI n := by rfl) (hN : N < 2 ^ 31 := by omega) : vp_in x N := by
  subst hx
  exact vp_in_nI h hN
theorem pk_cl {x : Int32} (n : Nat) (hx : x = nI n := by rfl) (h : n < 2 ^ 31 := by omega) : x.toNatClampNeg = n := by
  subst hx
  exact nI_clamp h
theorem pk_tn {n : Nat} (h : n < 2 ^ 32) : (nI n).toBitVec.toNat = n := Nat.mod_eq_of_lt h
theorem pk_and (x : Int32) {m : Int32} (k : Nat) (hm : m.toBitVec.toNat = 2 ^ k - 1) : x &&& m = nI (x.toBitVec.toNat % 2 ^ k) := by
  apply Int32.toBitVec_inj.mp
  apply BitVec.eq_of_toNat_eq
  rw [Int32.toBitVec_and, BitVec.toNat_and, hm, Nat.and_two_pow_sub_one_eq_mod]
  show _ = (BitVec.ofNat 32 _).toNat
  rw [BitVec.toNat_ofNat]
  exact (Nat.mod_eq_of_lt (Nat.lt_of_le_of_lt (Nat.mod_le _ _) x.toBitVec.isLt)).symm
theorem pk_andN {n : Nat} (h : n < 2 ^ 32) {m : Int32} (k : Nat) (hm : m.toBitVec.toNat = 2 ^ k - 1) : nI n &&& m = nI (n % 2 ^ k) := by
  rw [pk_and _ k hm, pk_tn h]
theorem pk_shl (a s : Int32) (k : Nat) (hs : (s.toBitVec.smod 32).toNat = k) : (a <<< s).toBitVec.toNat = a.toBitVec.toNat * 2 ^ k % 2 ^ 32 := by
  show (a.toBitVec <<< (s.toBitVec.smod 32).toNat).toNat = _
  rw [hs, BitVec.toNat_shiftLeft, Nat.shiftLeft_eq]
theorem pk_shlN {n : Nat} (s : Int32) (k : Nat) (hs : (s.toBitVec.smod 32).toNat = k) (h : n * 2 ^ k < 2 ^ 32) : nI n <<< s = nI (n * 2 ^ k) := by
  apply Int32.toBitVec_inj.mp
  apply BitVec.eq_of_toNat_eq
  have hn : n < 2 ^ 32 := Nat.lt_of_le_of_lt (Nat.le_mul_of_pos_right n (Nat.two_pow_pos k)) h
  rw [pk_shl _ _ k hs, pk_tn hn, pk_tn h, Nat.mod_eq_of_lt h]
theorem pk_shr (a s : Int32) (k : Nat) (hs : (s.toBitVec.smod 32).toNat = k) : (a >>> s).toInt = a.toInt >>> k := by
  show (a.toBitVec.sshiftRight (s.toBitVec.smod 32).toNat).toInt = _
  rw [hs, BitVec.toInt_sshiftRight]
  rfl
theorem pk_shrN {n : Nat} (h : n < 2 ^ 31) (s : Int32) (k : Nat) (hs : (s.toBitVec.smod 32).toNat = k) : nI n >>> s = nI (n / 2 ^ k) := by
  apply Int32.toInt_inj.mp
  have h2 : n / 2 ^ k ≤ n := Nat.div_le_self _ _
  rw [pk_shr _ _ k hs, nI_toInt h, nI_toInt (by omega), Int.shiftRight_eq_div_pow]
  rfl
theorem pk_least (P : Nat → Prop) (h : ∃ k, P k) : ∃ k, P k ∧ ∀ j, j < k → ¬ P j := by
  obtain ⟨k, hk⟩ := h
  induction k using Nat.strongRecOn with
  | ind k ih =>
    by_cases e : ∃ j, j < k ∧ P j
    · obtain ⟨j, hj, pj⟩ := e
      exact ih j hj pj
    · exact ⟨k, hk, fun j hj pj => e ⟨j, hj, pj⟩⟩
def bt (x : Int32) (i : Nat) : Bool := x.toBitVec.getLsbD i
theorem b_ext {x y : Int32} (h : ∀ i, i < 32 → bt x i = bt y i) : x = y := Int32.toBitVec_inj.mp (BitVec.eq_of_getLsbD_eq (fun i hi => h i hi))
theorem b_or (x y : Int32) (i : Nat) : bt (x ||| y) i = (bt x i || bt y i) := by unfold bt; rw [Int32.toBitVec_or, BitVec.getLsbD_or]
theorem b_and (x y : Int32) (i : Nat) : bt (x &&& y) i = (bt x i && bt y i) := by unfold bt; rw [Int32.toBitVec_and, BitVec.getLsbD_and]
theorem b_big {x : Int32} {i : Nat} (h : 32 ≤ i) : bt x i = false := BitVec.getLsbD_of_ge _ _ h
theorem b_0 (i : Nat) : bt 0 i = false := BitVec.getLsbD_zero
theorem s_l : ∀ n, n < 32 → ((nI n &&& 31).toBitVec.smod 32).toNat = n := by decide +kernel
theorem b_shl (n : Nat) (hn : n < 32) (x : Int32) {i : Nat} (hi : i < 32) : bt (x <<< (nI n &&& 31)) i = (decide (n ≤ i) && bt x (i - n)) := by
  unfold bt
  rw [Int32.toBitVec_shiftLeft]
  show (x.toBitVec <<< ((nI n &&& 31).toBitVec.smod 32).toNat).getLsbD i = _
  rw [s_l n hn, BitVec.getLsbD_shiftLeft]
  rcases Nat.lt_or_ge i n with h | h
  · simp [h, Nat.not_le.mpr h]
  · simp [hi, h, Nat.not_lt.mpr h]
end
section
/- loop laws, numbers, the pure pictures -/
theorem zp_lg (W : Nat → Nat → Prop) (e : Nat) (hx : ∀ m, W (m + 1) e) (hs : ∀ m i, i < e → W m (i + 1) → W (m + 1) i) : ∀ d i, i + d = e → ∀ m, d < m → W m i := by
  intro d
  induction d with
  | zero =>
    intro i hi m hm
    obtain ⟨k, rfl⟩ : ∃ k, m = k + 1 := ⟨m - 1, by omega⟩
    have h : i = e := by omega
    subst h
    exact hx k
  | succ d ih =>
    intro i hi m hm
    obtain ⟨k, rfl⟩ : ∃ k, m = k + 1 := ⟨m - 1, by omega⟩
    exact hs k i (by omega) (ih (i + 1) (by omega) k (by omega))
theorem zp_l1 (W : Nat → Nat → Prop) (e i0 : Nat) (h0 : i0 ≤ e) (hx : ∀ m, W (m + 1) e) (hs : ∀ m i, i0 ≤ i → i < e → W m (i + 1) → W (m + 1) i) : ∃ m, W m i0 :=
  ⟨e - i0 + 1, (zp_lg (fun m i => i0 ≤ i → W m i) e (fun m _ => hx m) (fun m i hi h h9 => hs m i h9 hi (h (by omega))) (e - i0) i0 (by omega) _ (by omega)) (Nat.le_refl _)⟩
theorem zp_l0 (W : Nat → Nat → Prop) (e : Nat) (hx : ∀ m, W (m + 1) e) (hs : ∀ m i, i < e → W m (i + 1) → W (m + 1) i) : ∃ m, W m 0 :=
  ⟨e + 1, zp_lg W e hx hs e 0 (by omega) _ (by omega)⟩
theorem zp_8 : (8 : Int32) = nI 8 := by decide +kernel
theorem zp_cell (a b : Nat) : nI a * 8 + nI b = nI (a * 8 + b) := by rw [zp_8, pk_mul, nI_add]
theorem zp_60 (a : Nat) : nI a * 6 + 0 = nI (a * 6 + 0) := by rw [show (6 : Int32) = nI 6 from by decide +kernel, show (0 : Int32) = nI 0 from by decide +kernel, pk_mul, nI_add]
theorem zp_61 (a : Nat) : nI a * 6 + 1 = nI (a * 6 + 1) := by rw [show (6 : Int32) = nI 6 from by decide +kernel, show (1 : Int32) = nI 1 from by decide +kernel, pk_mul, nI_add]
theorem zp_62 (a : Nat) : nI a * 6 + 2 = nI (a * 6 + 2) := by rw [show (6 : Int32) = nI 6 from by decide +kernel, show (2 : Int32) = nI 2 from by decide +kernel, pk_mul, nI_add]
theorem zp_63 (a : Nat) : nI a * 6 + 3 = nI (a * 6 + 3) := by rw [show (6 : Int32) = nI 6 from by decide +kernel, show (3 : Int32) = nI 3 from by decide +kernel, pk_mul, nI_add]
theorem zp_64 (a : Nat) : nI a * 6 + 4 = nI (a * 6 + 4) := by rw [show (6 : Int32) = nI 6 from by decide +kernel, show (4 : Int32) = nI 4 from by decide +kernel, pk_mul, nI_add]
theorem zp_65 (a : Nat) : nI a * 6 + 5 = nI (a * 6 + 5) := by rw [show (6 : Int32) = nI 6 from by decide +kernel, show (5 : Int32) = nI 5 from by decide +kernel, pk_mul, nI_add]
theorem zp_rd {f : Nat → Int32} {c : Nat} (h : c < 2 ^ 31) : f (nI c).toNatClampNeg = f c := congrArg f (nI_clamp h)
theorem zp_up {f : Nat → Int32} {c : Nat} {v : Int32} (h : c < 2 ^ 31) : upd f (nI c).toNatClampNeg v = upd f c v := congrArg (fun k => upd f k v) (nI_clamp h)
theorem zp_un {f : Nat → Int32} {c : Nat} {v w : Int32} (h : c < 2 ^ 31) (hv : vp_nar .boolean v = w) : upd f (nI c).toNatClampNeg (vp_nar .boolean v) = upd f c w := by rw [hv, nI_clamp h]
theorem zp_n0 : vp_nar .boolean 0 = 0 := rfl
theorem zp_n1 : vp_nar .boolean 1 = 1 := rfl
theorem zb_t {A B : Prop} {f : Nat → Int32} {c : Nat} {v : Int32} (hc : c < 2 ^ 31) (h : f c = v) (a : A) : (f (nI c).toNatClampNeg = v → A) ∧ (¬ f (nI c).toNatClampNeg = v → B) := br_t ((zp_rd hc).trans h) a
theorem zb_f {A B : Prop} {f : Nat → Int32} {c : Nat} {v : Int32} (hc : c < 2 ^ 31) (h : ¬ f c = v) (b : B) : (f (nI c).toNatClampNeg = v → A) ∧ (¬ f (nI c).toNatClampNeg = v → B) := br_f (fun z => h ((zp_rd hc).symm.trans z)) b
theorem zb_c {A B : Prop} {f : Nat → Int32} {c : Nat} {v : Int32} (hc : c < 2 ^ 31) (a : f c = v → A) (b : ¬ f c = v → B) : (f (nI c).toNatClampNeg = v → A) ∧ (¬ f (nI c).toNatClampNeg = v → B) := br_c (fun z => a ((zp_rd hc).symm.trans z)) (fun z => b (fun y => z ((zp_rd hc).trans y)))
/-- 0 or 1 -/
def zd_b : Bool → Int32
  | true => 1
  | false => 0
theorem zb_b {A B : Prop} {b : Bool} (h0 : b = false → A) (h1 : b = true → B) : (zd_b b = 0 → A) ∧ (¬ zd_b b = 0 → B) := by
  cases b
  · exact br_t rfl (h0 rfl)
  · exact br_f (by decide) (h1 rfl)
theorem zb_b0 {A B : Prop} {b : Bool} (h : b = false) (a : A) : (zd_b b = 0 → A) ∧ (¬ zd_b b = 0 → B) := zb_b (fun _ => a) (fun z => absurd (h.symm.trans z) (by decide))
theorem zb_b1 {A B : Prop} {b : Bool} (h : b = true) (a : B) : (zd_b b = 0 → A) ∧ (¬ zd_b b = 0 → B) := zb_b (fun z => absurd (z.symm.trans h) (by decide)) (fun _ => a)
theorem zp_nb (b : Bool) : vp_nar .boolean (zd_b b) = zd_b b := by cases b <;> rfl
theorem zp_narb (b : Bool) : narrow .boolean (.int (zd_b b)) = .int (zd_b b) := by cases b <;> rfl
theorem zp_b0 {b : Bool} : zd_b b = 0 ↔ b = false := by cases b <;> decide
theorem zp_10 : ¬ (1 : Int32) = 0 := by decide
theorem zp_nf {b : Bool} (h : ¬ b = true) : b = false := by cases b <;> simp_all
theorem zp_nt {b : Bool} (h : ¬ b = false) : b = true := by cases b <;> simp_all
abbrev zd_DB : Type := (Nat → Int32) × (Nat → Int32) × (Nat → Int32)
/-- a store of a copy -/
def zd_st (D : zd_DB) (i : Nat) (s a b : Int32) : zd_DB := (upd D.1 i s, upd D.2.1 i a, upd D.2.2 i b)
/-- newer -/
def zd_nw (L s a b t c d : Int32) : Bool :=
  if s = 0 then false
  else if t = 0 then (if a = L then false else true)
  else if s = t then
    (if a = L then
      (if c = L then (if a = c then (if b ≤ d then false else true) else (if c ≤ a then false else true)) else true)
    else
      (if c = L then false else (if a = c then (if b ≤ d then false else true) else (if c ≤ a then false else true))))
  else (if s ≤ t then false else true)
theorem zp_nwself (L s a b : Int32) : zd_nw L s a b s a b = false := by
  unfold zd_nw
  by_cases h : s = 0
  · rw [if_pos h]
  · by_cases h2 : a = L
    · rw [if_neg h, if_neg h, if_pos rfl, if_pos h2, if_pos h2, if_pos rfl, if_pos Int32.le_rfl]
    · rw [if_neg h, if_neg h, if_pos rfl, if_neg h2, if_neg h2, if_pos rfl, if_pos Int32.le_rfl]
/-- the list of full neighbours, k routers done -/
def zd_ls (fl co : Nat → Int32) (r : Nat) : Nat → Int32
  | 0 => 0
  | k + 1 => if fl (r * 8 + k) = 0 then zd_ls fl co r k else zd_ls fl co r k + (co (r * 8 + k) <<< ((3 * nI k) &&& 31))
def zd_og (n l L : Nat) (fl co : Nat → Int32) (D : zd_DB) (r : Nat) : zd_DB :=
  if nI l ≤ D.1 (r * 8 + r) then zd_st D (r * 8 + r) (nI l) (nI L) 0 else zd_st D (r * 8 + r) (D.1 (r * 8 + r) + 1) 0 (zd_ls fl co r n)
/-- the reference's link state -/
def zd_sf (up fl : Nat → Int32) : Nat → Int32 := fun i => if up i = 0 then 0 else if fl i = 0 then 1 else 2
theorem zp_sf0 {up fl : Nat → Int32} {i : Nat} : zd_sf up fl i = 0 ↔ up i = 0 := by
  unfold zd_sf
  by_cases h : up i = 0
  · rw [if_pos h]; exact ⟨fun _ => h, fun _ => rfl⟩
  · rw [if_neg h]
    by_cases h2 : fl i = 0
    · rw [if_pos h2]; exact ⟨fun z => absurd z (by decide), fun z => absurd z h⟩
    · rw [if_neg h2]; exact ⟨fun z => absurd z (by decide), fun z => absurd z h⟩
theorem zp_sf1 {up fl : Nat → Int32} {i : Nat} : zd_sf up fl i = 1 ↔ ¬ up i = 0 ∧ fl i = 0 := by
  unfold zd_sf
  by_cases h : up i = 0
  · rw [if_pos h]; exact ⟨fun z => absurd z (by decide), fun z => absurd h z.1⟩
  · rw [if_neg h]
    by_cases h2 : fl i = 0
    · rw [if_pos h2]; exact ⟨fun _ => ⟨h, h2⟩, fun _ => rfl⟩
    · rw [if_neg h2]; exact ⟨fun z => absurd z (by decide), fun z => absurd z.2 h2⟩
theorem zp_sf2 {up fl : Nat → Int32} {i : Nat} : zd_sf up fl i = 2 ↔ ¬ up i = 0 ∧ ¬ fl i = 0 := by
  unfold zd_sf
  by_cases h : up i = 0
  · rw [if_pos h]; exact ⟨fun z => absurd z (by decide), fun z => absurd h z.1⟩
  · rw [if_neg h]
    by_cases h2 : fl i = 0
    · rw [if_pos h2]; exact ⟨fun z => absurd z (by decide), fun z => absurd h2 z.2⟩
    · rw [if_neg h2]; exact ⟨fun _ => ⟨h, h2⟩, fun _ => rfl⟩
/-- the reference's packets: field f of slot i at i * 6 + f -/
def zd_pk (sd rc og ps pa pb : Nat → Int32) : Nat → Int32 := fun j =>
  if j % 6 = 0 then ps (j / 6) else if j % 6 = 1 then pa (j / 6) else if j % 6 = 2 then pb (j / 6) else if j % 6 = 3 then og (j / 6) else if j % 6 = 4 then sd (j / 6) else rc (j / 6)
section
variable {sd rc og ps pa pb : Nat → Int32}
theorem zp_pk0 (i : Nat) : zd_pk sd rc og ps pa pb (i * 6 + 0) = ps i := by
  unfold zd_pk
  rw [show (i * 6 + 0) % 6 = 0 by omega, show (i * 6 + 0) / 6 = i by omega]; rfl
theorem zp_pk00 (i : Nat) : zd_pk sd rc og ps pa pb (i * 6) = ps i := zp_pk0 i
theorem zp_pk1 (i : Nat) : zd_pk sd rc og ps pa pb (i * 6 + 1) = pa i := by
  unfold zd_pk
  rw [show (i * 6 + 1) % 6 = 1 by omega, show (i * 6 + 1) / 6 = i by omega]; rfl
theorem zp_pk2 (i : Nat) : zd_pk sd rc og ps pa pb (i * 6 + 2) = pb i := by
  unfold zd_pk
  rw [show (i * 6 + 2) % 6 = 2 by omega, show (i * 6 + 2) / 6 = i by omega]; rfl
theorem zp_pk3 (i : Nat) : zd_pk sd rc og ps pa pb (i * 6 + 3) = og i := by
  unfold zd_pk
  rw [show (i * 6 + 3) % 6 = 3 by omega, show (i * 6 + 3) / 6 = i by omega]; rfl
theorem zp_pk4 (i : Nat) : zd_pk sd rc og ps pa pb (i * 6 + 4) = sd i := by
  unfold zd_pk
  rw [show (i * 6 + 4) % 6 = 4 by omega, show (i * 6 + 4) / 6 = i by omega]; rfl
theorem zp_pk5 (i : Nat) : zd_pk sd rc og ps pa pb (i * 6 + 5) = rc i := by
  unfold zd_pk
  rw [show (i * 6 + 5) % 6 = 5 by omega, show (i * 6 + 5) / 6 = i by omega]; rfl
theorem zp_pkx {f g : Nat → Int32} (h : ∀ i, f (i * 6 + 0) = g (i * 6 + 0) ∧ f (i * 6 + 1) = g (i * 6 + 1) ∧ f (i * 6 + 2) = g (i * 6 + 2) ∧ f (i * 6 + 3) = g (i * 6 + 3) ∧ f (i * 6 + 4) = g (i * 6 + 4) ∧ f (i * 6 + 5) = g (i * 6 + 5)) : f = g := by
  funext j
  obtain ⟨h0, h1, h2, h3, h4, h5⟩ := h (j / 6)
  have hj : j = j / 6 * 6 + 0 ∨ j = j / 6 * 6 + 1 ∨ j = j / 6 * 6 + 2 ∨ j = j / 6 * 6 + 3 ∨ j = j / 6 * 6 + 4 ∨ j = j / 6 * 6 + 5 := by omega
  rcases hj with e | e | e | e | e | e <;> rw [e] <;> assumption
theorem zp_updc {f : Nat → Int32} {v : Int32} {i k a b : Nat} (ha : a < 6) (hb : b < 6) : upd f (k * 6 + a) v (i * 6 + b) = if i = k ∧ b = a then v else f (i * 6 + b) := by
  unfold upd
  by_cases h : i = k ∧ b = a
  · rw [if_pos h, if_pos (by omega)]
  · rw [if_neg h, if_neg (by omega)]
theorem zp_updi {f : Nat → Int32} {v : Int32} {i k : Nat} : upd f k v i = if i = k then v else f i := rfl
theorem zp_pu0 (k : Nat) (v : Int32) : upd (zd_pk sd rc og ps pa pb) (k * 6 + 0) v = zd_pk sd rc og (upd ps k v) pa pb := by
  refine zp_pkx fun i => ?_
  refine ⟨?_, ?_, ?_, ?_, ?_, ?_⟩ <;> rw [zp_updc (by omega) (by omega)] <;> simp [zp_pk00, zp_pk1, zp_pk2, zp_pk3, zp_pk4, zp_pk5, zp_updi]
theorem zp_pu1 (k : Nat) (v : Int32) : upd (zd_pk sd rc og ps pa pb) (k * 6 + 1) v = zd_pk sd rc og ps (upd pa k v) pb := by
  refine zp_pkx fun i => ?_
  refine ⟨?_, ?_, ?_, ?_, ?_, ?_⟩ <;> rw [zp_updc (by omega) (by omega)] <;> simp [zp_pk00, zp_pk1, zp_pk2, zp_pk3, zp_pk4, zp_pk5, zp_updi]
theorem zp_pu2 (k : Nat) (v : Int32) : upd (zd_pk sd rc og ps pa pb) (k * 6 + 2) v = zd_pk sd rc og ps pa (upd pb k v) := by
  refine zp_pkx fun i => ?_
  refine ⟨?_, ?_, ?_, ?_, ?_, ?_⟩ <;> rw [zp_updc (by omega) (by omega)] <;> simp [zp_pk00, zp_pk1, zp_pk2, zp_pk3, zp_pk4, zp_pk5, zp_updi]
theorem zp_pu3 (k : Nat) (v : Int32) : upd (zd_pk sd rc og ps pa pb) (k * 6 + 3) v = zd_pk sd rc (upd og k v) ps pa pb := by
  refine zp_pkx fun i => ?_
  refine ⟨?_, ?_, ?_, ?_, ?_, ?_⟩ <;> rw [zp_updc (by omega) (by omega)] <;> simp [zp_pk00, zp_pk1, zp_pk2, zp_pk3, zp_pk4, zp_pk5, zp_updi]
theorem zp_pu4 (k : Nat) (v : Int32) : upd (zd_pk sd rc og ps pa pb) (k * 6 + 4) v = zd_pk (upd sd k v) rc og ps pa pb := by
  refine zp_pkx fun i => ?_
  refine ⟨?_, ?_, ?_, ?_, ?_, ?_⟩ <;> rw [zp_updc (by omega) (by omega)] <;> simp [zp_pk00, zp_pk1, zp_pk2, zp_pk3, zp_pk4, zp_pk5, zp_updi]
theorem zp_pu5 (k : Nat) (v : Int32) : upd (zd_pk sd rc og ps pa pb) (k * 6 + 5) v = zd_pk sd (upd rc k v) og ps pa pb := by
  refine zp_pkx fun i => ?_
  refine ⟨?_, ?_, ?_, ?_, ?_, ?_⟩ <;> rw [zp_updc (by omega) (by omega)] <;> simp [zp_pk00, zp_pk1, zp_pk2, zp_pk3, zp_pk4, zp_pk5, zp_updi]
end
/-- routers, or slots, that are none -/
def zd_no (n : Nat) (v : Int32) : Prop := v < 0 ∨ nI n ≤ v
/-- two different routers -/
def zd_pr (n : Nat) (v1 v2 : Int32) : Prop := ∃ a b : Nat, a < n ∧ b < n ∧ a ≠ b ∧ v1 = nI a ∧ v2 = nI b
theorem zp_ix (n : Nat) (hn : n < 2 ^ 31) (v : Int32) : zd_no n v ∨ ∃ j : Nat, j < n ∧ v = nI j := by
  rcases pk_ix v hn with h | h | h
  · exact Or.inl (Or.inl h)
  · exact Or.inl (Or.inr h)
  · exact Or.inr h
theorem zp_nlt {n : Nat} {v : Int32} (h : nI n ≤ v) : ¬ v < nI n := Int32.not_lt.mpr h
theorem zp_ne {a b : Nat} (ha : a < 2 ^ 31) (hb : b < 2 ^ 31) (h : a ≠ b) : ¬ nI a = nI b := fun z => h ((nI_eq ha hb).mp z)
/-- the test of a bit -/
theorem zp_bit {x : Int32} {r : Nat} (hr : r < 32) : (x &&& ((1 : Int32) <<< (nI r &&& 31))) = 0 ↔ bt x r = false := by
  constructor
  · intro h
    have e : bt (x &&& ((1 : Int32) <<< (nI r &&& 31))) r = bt 0 r := by rw [h]
    rw [b_and, b_shl r hr _ hr, b_0] at e
    simpa [show bt 1 0 = true from by decide +kernel] using e
  · intro h
    refine b_ext fun i hi => ?_
    rw [b_and, b_shl r hr _ hi, b_0]
    by_cases hri : i = r
    · rw [hri, h]; rfl
    · by_cases hle : r ≤ i
      · have h1 : bt 1 (i - r) = false := by
          have hk : ∀ k, k < 32 → k ≠ 0 → bt 1 k = false := by decide +kernel
          exact hk (i - r) (by omega) (by omega)
        rw [h1]; simp
      · simp [hle]
theorem zp_orbit {x : Int32} {r j : Nat} (hr : r < 32) (hj : j < 32) : bt (x ||| ((1 : Int32) <<< (nI r &&& 31))) j = (bt x j || decide (j = r)) := by
  rw [b_or, b_shl r hr _ hj]
  have hk : ∀ k, k < 32 → bt 1 k = decide (k = 0) := by decide +kernel
  rw [hk (j - r) (by omega)]
  by_cases h : j = r
  · subst h; simp
  · by_cases h2 : r ≤ j
    · have : ¬ j - r = 0 := by omega
      simp [h, this]
    · simp [h, h2]
theorem zp_bit1 {r j : Nat} (hr : r < 32) (hj : j < 32) : bt ((1 : Int32) <<< (nI r &&& 31)) j = decide (j = r) := by
  have h := zp_orbit (x := 0) hr hj
  rw [b_or, b_0] at h
  simpa using h
/-- or is plus, for a new highest bit -/
theorem zp_or : ∀ i, i < 8 → ∀ m, m < 2 ^ i → (nI m ||| ((1 : Int32) <<< (nI i &&& 31))) = nI (m + 2 ^ i) ∧ nI m + ((1 : Int32) <<< (nI i &&& 31)) = nI (m + 2 ^ i) := by decide +kernel
/-- shift is times -/
theorem zp_shl : ∀ k, k < 8 → (((3 * nI k) &&& 31).toBitVec.smod 32).toNat = 3 * k := by decide +kernel
theorem zp_shm {k : Nat} (hk : k < 8) (c : Int32) : c <<< ((3 * nI k) &&& 31) = c * nI (8 ^ k) := by
  apply Int32.toBitVec_inj.mp
  apply BitVec.eq_of_toNat_eq
  rw [pk_shl _ _ _ (zp_shl k hk), Int32.toBitVec_mul, BitVec.toNat_mul, pk_tn, show (8 : Nat) ^ k = 2 ^ (3 * k) from by rw [Nat.pow_mul]]
  exact Nat.lt_of_le_of_lt (Nat.pow_le_pow_right (by decide) (show k ≤ 7 by omega)) (by decide)
end
section
/- the component's small methods -/
section
variable {n l L s : Nat} {D : zd_DB} {up fl co us sd rc og ps pa pb rm ds se : Nat → Int32}
theorem zx_valid1 {post : Int32 → Prop} {j : Nat} (hn : n ≤ 8) (hj : j < n) (h : post 1) : wpX_valid post (nI n, nI l, nI L, nI s, D.1, D.2.1, D.2.2, up, fl, co, us, sd, rc, og, ps, pa, pb, rm, ds, se) (nI j) :=
  br_f (nI_pos (by omega)) (br_f (nI_ge hj (by omega)) h)
theorem zx_valid0 {post : Int32 → Prop} {v : Int32} (hv : zd_no n v) (h : post 0) : wpX_valid post (nI n, nI l, nI L, nI s, D.1, D.2.1, D.2.2, up, fl, co, us, sd, rc, og, ps, pa, pb, rm, ds, se) v := by
  by_cases h0 : v < 0
  · exact br_t h0 h
  · exact br_f h0 (br_t (hv.resolve_left h0) h)
theorem zx_vp1 {post : Int32 → Prop} {a b : Nat} (hn : n ≤ 8) (ha : a < n) (hb : b < n) (hab : a ≠ b) (h : post 1) : wpX_validPair post (nI n, nI l, nI L, nI s, D.1, D.2.1, D.2.2, up, fl, co, us, sd, rc, og, ps, pa, pb, rm, ds, se) (nI a) (nI b) := by
  unfold wpX_validPair
  refine zx_valid1 hn ha ?_
  refine br_f zp_10 ?_
  refine zx_valid1 hn hb ?_
  exact br_f zp_10 (br_f (zp_ne (by omega) (by omega) hab) h)
theorem zx_vp0 {post : Int32 → Prop} {v w : Int32} (hn : n ≤ 8) (hv : ¬ zd_pr n v w) (h : post 0) : wpX_validPair post (nI n, nI l, nI L, nI s, D.1, D.2.1, D.2.2, up, fl, co, us, sd, rc, og, ps, pa, pb, rm, ds, se) v w := by
  unfold wpX_validPair
  rcases zp_ix n (by omega) v with h1 | ⟨a, ha, rfl⟩
  · refine zx_valid0 h1 ?_
    exact br_t rfl h
  · refine zx_valid1 hn ha ?_
    refine br_f zp_10 ?_
    rcases zp_ix n (by omega) w with h2 | ⟨b, hb, rfl⟩
    · refine zx_valid0 h2 ?_
      exact br_t rfl h
    · refine zx_valid1 hn hb ?_
      refine br_f zp_10 ?_
      by_cases e : a = b
      · exact br_t (congrArg nI e) h
      · exact absurd ⟨a, b, ha, hb, e, rfl, rfl⟩ hv
theorem zx_cell {post : Int32 → Prop} (a b : Nat) (h : post (nI (a * 8 + b))) : wpX_cell post (nI n, nI l, nI L, nI s, D.1, D.2.1, D.2.2, up, fl, co, us, sd, rc, og, ps, pa, pb, rm, ds, se) (nI a) (nI b) := by
  have h2 : post (nI a * 8 + nI b) := by rw [zp_cell]; exact h
  exact h2
theorem zx_lk1 {post : Int32 → Prop} {a b : Nat} (hn : n ≤ 8) (ha : a < n) (hb : b < n) (hab : a ≠ b) (hu : ¬ up (a * 8 + b) = 0) (h : post 1) : wpX_linked post (nI n, nI l, nI L, nI s, D.1, D.2.1, D.2.2, up, fl, co, us, sd, rc, og, ps, pa, pb, rm, ds, se) (nI a) (nI b) := by
  unfold wpX_linked
  refine zx_vp1 hn ha hb hab ?_
  refine br_f zp_10 ?_
  refine zx_cell a b ?_
  exact And.intro (vp_in_nI (by omega) (by omega)) (zb_f (by omega) hu h)
theorem zx_lk0 {post : Int32 → Prop} {a b : Nat} (hn : n ≤ 8) (ha : a < n) (hb : b < n) (hab : a ≠ b) (hu : up (a * 8 + b) = 0) (h : post 0) : wpX_linked post (nI n, nI l, nI L, nI s, D.1, D.2.1, D.2.2, up, fl, co, us, sd, rc, og, ps, pa, pb, rm, ds, se) (nI a) (nI b) := by
  unfold wpX_linked
  refine zx_vp1 hn ha hb hab ?_
  refine br_f zp_10 ?_
  refine zx_cell a b ?_
  exact And.intro (vp_in_nI (by omega) (by omega)) (zb_t (by omega) hu h)
theorem zx_lkn {post : Int32 → Prop} {v w : Int32} (hn : n ≤ 8) (hv : ¬ zd_pr n v w) (h : post 0) : wpX_linked post (nI n, nI l, nI L, nI s, D.1, D.2.1, D.2.2, up, fl, co, us, sd, rc, og, ps, pa, pb, rm, ds, se) v w := by
  unfold wpX_linked
  refine zx_vp0 hn hv ?_
  exact br_t rfl h
theorem zx_fn {post : Int32 → Prop} {r : Nat} (hn : n ≤ 8) (hr : r < 8) (hp : post (zd_ls fl co r n)) : wpX_fullNeighbours post (nI n, nI l, nI L, nI s, D.1, D.2.1, D.2.2, up, fl, co, us, sd, rc, og, ps, pa, pb, rm, ds, se) (nI r) := by
  refine zp_l0 (fun m i => wX_fullNeighbours_4 post (nI r) (nI n) (nI l) (nI L) (nI s) D.1 D.2.1 D.2.2 up fl co us sd rc og ps pa pb rm ds se m (zd_ls fl co r i) (nI i)) n ?_ ?_
  · intro m
    exact br_t (nI_le (Nat.le_refl n) (by omega)) hp
  · intro m i hi h
    refine br_f (nI_ge hi (by omega)) ?_
    refine zx_cell r i ?_
    by_cases hf : fl (r * 8 + i) = 0
    · have e : zd_ls fl co r (i + 1) = zd_ls fl co r i := if_pos hf
      rw [e] at h
      exact And.intro (vp_in_nI (by omega) (by omega)) (zb_t (by omega) hf (nm_r (nI_1 i) h))
    · have e : zd_ls fl co r (i + 1) = zd_ls fl co r i + (co (r * 8 + i) <<< ((3 * nI i) &&& 31)) := if_neg hf
      rw [e] at h
      refine And.intro (vp_in_nI (by omega) (by omega)) (zb_f (by omega) hf (And.intro (vp_in_nI (by omega) (by omega)) ?_))
      refine nm_r (e' := zd_ls fl co r i + (co (r * 8 + i) <<< ((3 * nI i) &&& 31))) (by rw [nI_clamp (by omega)]) ?_
      exact nm_r (nI_1 i) h
theorem zx_store {post : SX → Prop} {h : Nat} {s0 a0 b0 : Int32} (hh : h < 64) (hp : post (nI n, nI l, nI L, nI s, (zd_st D h s0 a0 b0).1, (zd_st D h s0 a0 b0).2.1, (zd_st D h s0 a0 b0).2.2, up, fl, co, us, sd, rc, og, ps, pa, pb, rm, ds, se)) : wpX_store post (nI n, nI l, nI L, nI s, D.1, D.2.1, D.2.2, up, fl, co, us, sd, rc, og, ps, pa, pb, rm, ds, se) (nI h) s0 a0 b0 := by
  have hi : vp_in (nI h) 64 := vp_in_nI hh (by omega)
  refine And.intro hi ?_
  refine nm_r (zp_up (by omega)) ?_
  refine And.intro hi ?_
  refine nm_r (zp_up (by omega)) ?_
  refine And.intro hi ?_
  refine nm_r (zp_up (by omega)) ?_
  exact hp
theorem zx_orig {post : SX → Prop} {r : Nat} (hn : n ≤ 8) (hr : r < 8) (hp : post (nI n, nI l, nI L, nI s, (zd_og n l L fl co D r).1, (zd_og n l L fl co D r).2.1, (zd_og n l L fl co D r).2.2, up, fl, co, us, sd, rc, og, ps, pa, pb, rm, ds, se)) : wpX_originate post (nI n, nI l, nI L, nI s, D.1, D.2.1, D.2.2, up, fl, co, us, sd, rc, og, ps, pa, pb, rm, ds, se) (nI r) := by
  unfold wpX_originate
  refine zx_cell r r ?_
  refine And.intro (vp_in_nI (by omega) (by omega)) ?_
  refine nm_r (zp_rd (by omega)) ?_
  unfold zd_og at hp
  by_cases hl : nI l ≤ D.1 (r * 8 + r)
  · rw [if_pos hl] at hp
    refine br_t hl ?_
    refine zx_store (by omega) ?_
    exact hp
  · rw [if_neg hl] at hp
    refine br_f hl ?_
    refine zx_fn hn hr ?_
    refine zx_store (by omega) ?_
    exact hp
theorem zx_setFull {post : SX → Prop} {a b : Nat} {v : Int32} (ha : a < 8) (hb : b < 8) (hv : vp_nar .boolean v = v) (hp : post (nI n, nI l, nI L, nI s, D.1, D.2.1, D.2.2, up, upd (upd fl (a * 8 + b) v) (b * 8 + a) v, co, us, sd, rc, og, ps, pa, pb, rm, ds, se)) : wpX_setFull post (nI n, nI l, nI L, nI s, D.1, D.2.1, D.2.2, up, fl, co, us, sd, rc, og, ps, pa, pb, rm, ds, se) (nI a) (nI b) v := by
  unfold wpX_setFull
  refine zx_cell a b ?_
  refine And.intro (vp_in_nI (by omega) (by omega)) ?_
  refine nm_r (zp_un (by omega) hv) ?_
  refine zx_cell b a ?_
  refine And.intro (vp_in_nI (by omega) (by omega)) ?_
  refine nm_r (zp_un (by omega) hv) ?_
  exact hp
theorem zx_contains {post : Int32 → Prop} {x : Int32} {r : Nat} (hr : r < 32) (hp : post (zd_b (bt x r))) : wpX_contains post (nI n, nI l, nI L, nI s, D.1, D.2.1, D.2.2, up, fl, co, us, sd, rc, og, ps, pa, pb, rm, ds, se) x (nI r) := by
  by_cases h : bt x r = false
  · rw [h] at hp
    exact br_t ((zp_bit hr).mpr h) hp
  · rw [zp_nt h] at hp
    exact br_f (fun z => h ((zp_bit hr).mp z)) hp
theorem zx_isPurged {post : Int32 → Prop} {h : Nat} (hh : h < 64) (hp : post (zd_b (decide (¬ D.1 h = 0 ∧ D.2.1 h = nI L)))) : wpX_isPurged post (nI n, nI l, nI L, nI s, D.1, D.2.1, D.2.2, up, fl, co, us, sd, rc, og, ps, pa, pb, rm, ds, se) (nI h) := by
  have hi : vp_in (nI h) 64 := vp_in_nI hh (by omega)
  refine And.intro hi ?_
  by_cases h1 : D.1 h = 0
  · refine zb_t (by omega) h1 ?_
    rw [decide_eq_false (fun z => z.1 h1)] at hp
    exact hp
  · refine zb_f (by omega) h1 ?_
    refine And.intro hi ?_
    by_cases h2 : D.2.1 h = nI L
    · refine zb_t (by omega) h2 ?_
      rw [decide_eq_true ⟨h1, h2⟩] at hp
      exact hp
    · refine zb_f (by omega) h2 ?_
      rw [decide_eq_false (fun z => h2 z.2)] at hp
      exact hp
theorem zx_newer {post : Int32 → Prop} {s0 a0 b0 : Int32} {h : Nat} (hh : h < 64) (hp : post (zd_b (zd_nw (nI L) s0 a0 b0 (D.1 h) (D.2.1 h) (D.2.2 h)))) : wpX_newer post (nI n, nI l, nI L, nI s, D.1, D.2.1, D.2.2, up, fl, co, us, sd, rc, og, ps, pa, pb, rm, ds, se) s0 a0 b0 (nI h) := by
  have hi : vp_in (nI h) 64 := vp_in_nI hh (by omega)
  have hc : (nI h).toNatClampNeg = h := nI_clamp (by omega)
  have c31 : h < 2 ^ 31 := by omega
  unfold zd_nw at hp
  by_cases h1 : s0 = 0
  · rw [if_pos h1] at hp; exact br_t h1 hp
  rw [if_neg h1] at hp
  refine br_f h1 ?_
  have last : post (zd_b (if a0 = D.2.1 h then (if b0 ≤ D.2.2 h then false else true) else (if D.2.1 h ≤ a0 then false else true))) → vp_in (nI h) 64 ∧ (((a0 = (D.2.1 (nI h).toNatClampNeg) → (vp_in (nI h) 64 ∧ (((b0 ≤ (D.2.2 (nI h).toNatClampNeg) → (post 0)) ∧ (¬ b0 ≤ (D.2.2 (nI h).toNatClampNeg) → (post 1)))))) ∧ (¬ a0 = (D.2.1 (nI h).toNatClampNeg) → (vp_in (nI h) 64 ∧ ((((D.2.1 (nI h).toNatClampNeg) ≤ a0 → (post 0)) ∧ (¬ (D.2.1 (nI h).toNatClampNeg) ≤ a0 → (post 1)))))))) := by
    intro hq
    rw [hc]
    refine And.intro hi ?_
    by_cases g1 : a0 = D.2.1 h
    · rw [if_pos g1] at hq
      refine br_t g1 (And.intro hi ?_)
      by_cases g2 : b0 ≤ D.2.2 h
      · rw [if_pos g2] at hq; exact br_t g2 hq
      · rw [if_neg g2] at hq; exact br_f g2 hq
    · rw [if_neg g1] at hq
      refine br_f g1 (And.intro hi ?_)
      by_cases g2 : D.2.1 h ≤ a0
      · rw [if_pos g2] at hq; exact br_t g2 hq
      · rw [if_neg g2] at hq; exact br_f g2 hq
  by_cases h2 : D.1 h = 0
  · rw [if_pos h2] at hp
    by_cases h3 : a0 = nI L
    · rw [if_pos h3] at hp
      exact br_t h3 (And.intro hi (zb_t c31 h2 (br_f zp_10 hp)))
    · rw [if_neg h3] at hp
      exact br_f h3 (And.intro hi (zb_t c31 h2 (br_t rfl hp)))
  rw [if_neg h2] at hp
  have eqv : ∀ {A B : Prop}, s0 = D.1 h → A → (s0 = D.1 (nI h).toNatClampNeg → A) ∧ (¬ s0 = D.1 (nI h).toNatClampNeg → B) := fun e a => br_t (e.trans (zp_rd c31).symm) a
  have nev : ∀ {A B : Prop}, ¬ s0 = D.1 h → B → (s0 = D.1 (nI h).toNatClampNeg → A) ∧ (¬ s0 = D.1 (nI h).toNatClampNeg → B) := fun e a => br_f (fun z => e (z.trans (zp_rd c31))) a
  by_cases h4 : s0 = D.1 h
  · rw [if_pos h4] at hp
    by_cases h3 : a0 = nI L
    · rw [if_pos h3] at hp
      refine br_t h3 (And.intro hi (zb_f c31 h2 (And.intro hi (eqv h4 ?_))))
      refine zx_isPurged hh ?_
      by_cases h5 : D.2.1 h = nI L
      · rw [if_pos h5] at hp
        rw [decide_eq_true ⟨h2, h5⟩]
        exact br_t rfl (last hp)
      · rw [if_neg h5] at hp
        rw [decide_eq_false (fun z => h5 z.2)]
        exact br_f (by decide) (And.intro rfl hp)
    · rw [if_neg h3] at hp
      refine br_f h3 (And.intro hi (zb_f c31 h2 (And.intro hi (eqv h4 ?_))))
      refine zx_isPurged hh ?_
      by_cases h5 : D.2.1 h = nI L
      · rw [if_pos h5] at hp
        rw [decide_eq_true ⟨h2, h5⟩]
        exact br_f (by decide) (And.intro rfl hp)
      · rw [if_neg h5] at hp
        rw [decide_eq_false (fun z => h5 z.2)]
        exact br_t rfl (last hp)
  · rw [if_neg h4] at hp
    have fin : ∀ {z0 : Int32}, wX_newer_19 post s0 a0 b0 (nI h) z0 (nI n) (nI l) (nI L) (nI s) D.1 D.2.1 D.2.2 up fl co us sd rc og ps pa pb rm ds se := by
      intro z0
      refine And.intro hi (zb_f c31 h2 (And.intro hi (nev h4 (And.intro hi ?_))))
      rw [hc]
      by_cases h6 : s0 ≤ D.1 h
      · rw [if_pos h6] at hp; exact br_t h6 hp
      · rw [if_neg h6] at hp; exact br_f h6 hp
    by_cases h3 : a0 = nI L
    · exact br_t h3 fin
    · exact br_f h3 fin
/-- is owed: a's copy of o against b's -/
theorem zx_isOwed {post : Int32 → Prop} {a b o : Nat} (ha : a < 8) (hb : b < 8) (ho : o < 8) (hp : post (zd_b (decide (¬ up (a * 8 + b) = 0) && zd_nw (nI L) (D.1 (a * 8 + o)) (D.2.1 (a * 8 + o)) (D.2.2 (a * 8 + o)) (D.1 (b * 8 + o)) (D.2.1 (b * 8 + o)) (D.2.2 (b * 8 + o))))) : wpX_isOwed post (nI n, nI l, nI L, nI s, D.1, D.2.1, D.2.2, up, fl, co, us, sd, rc, og, ps, pa, pb, rm, ds, se) (nI a) (nI b) (nI o) := by
  unfold wpX_isOwed
  refine zx_cell a o ?_
  refine zx_cell b o ?_
  refine zx_cell a b ?_
  refine And.intro (vp_in_nI (by omega) (by omega)) ?_
  by_cases hu : up (a * 8 + b) = 0
  · rw [decide_eq_false (fun z => z hu)] at hp
    exact zb_t (by omega) hu hp
  · rw [decide_eq_true hu, Bool.true_and] at hp
    have hi : vp_in (nI (a * 8 + o)) 64 := vp_in_nI (by omega) (by omega)
    refine zb_f (by omega) hu (And.intro hi (And.intro hi (And.intro hi ?_)))
    rw [nI_clamp (n := a * 8 + o) (by omega)]
    refine zx_newer (by omega) ?_
    refine zb_b (fun e => ?_) (fun e => ?_)
    · rw [e] at hp; exact hp
    · rw [e] at hp; exact hp
theorem zx_isOpen {post : Int32 → Prop} {h : Nat} (hh : h < 64) (hp : post (zd_b (decide (¬ up h = 0 ∧ fl h = 0)))) : wpX_isOpen post (nI n, nI l, nI L, nI s, D.1, D.2.1, D.2.2, up, fl, co, us, sd, rc, og, ps, pa, pb, rm, ds, se) (nI h) := by
  have hi : vp_in (nI h) 64 := vp_in_nI hh (by omega)
  refine And.intro hi ?_
  by_cases h1 : up h = 0
  · refine zb_t (by omega) h1 ?_
    rw [decide_eq_false (fun z => z.1 h1)] at hp
    exact hp
  · refine zb_f (by omega) h1 ?_
    refine And.intro hi ?_
    by_cases h2 : fl h = 0
    · refine zb_t (by omega) h2 ?_
      rw [decide_eq_true ⟨h1, h2⟩] at hp
      exact hp
    · refine zb_f (by omega) h2 ?_
      rw [decide_eq_false (fun z => h2 z.2)] at hp
      exact hp
theorem zx_inFlight1 {post : Int32 → Prop} {i : Nat} (hs : s ≤ 16) (hi : i < s) (hu : ¬ us i = 0) (hp : post 1) : wpX_inFlight post (nI n, nI l, nI L, nI s, D.1, D.2.1, D.2.2, up, fl, co, us, sd, rc, og, ps, pa, pb, rm, ds, se) (nI i) :=
  br_f (nI_pos (by omega)) (br_f (nI_ge hi (by omega)) (And.intro (vp_in_nI (by omega) (by omega)) (zb_f (by omega) hu hp)))
theorem zx_inFlight0 {post : Int32 → Prop} {i : Nat} (hs : s ≤ 16) (hi : i < s) (hu : us i = 0) (hp : post 0) : wpX_inFlight post (nI n, nI l, nI L, nI s, D.1, D.2.1, D.2.2, up, fl, co, us, sd, rc, og, ps, pa, pb, rm, ds, se) (nI i) :=
  br_f (nI_pos (by omega)) (br_f (nI_ge hi (by omega)) (And.intro (vp_in_nI (by omega) (by omega)) (zb_t (by omega) hu hp)))
theorem zx_inFlightn {post : Int32 → Prop} {v : Int32} (hv : zd_no s v) (h : post 0) : wpX_inFlight post (nI n, nI l, nI L, nI s, D.1, D.2.1, D.2.2, up, fl, co, us, sd, rc, og, ps, pa, pb, rm, ds, se) v := by
  by_cases h0 : v < 0
  · exact br_t h0 h
  · exact br_f h0 (br_t (hv.resolve_left h0) h)
end
end
section
/- the reference's small methods -/
section
variable {n l L s : Nat} {D : zd_DB} {up fl co us sd rc og ps pa pb mk cm wk : Nat → Int32}
theorem zy_bad0 {post : Int32 → Prop} {j : Nat} (hn : n ≤ 8) (hj : j < n) (h : post 0) : wpY_bad post (nI n, nI l, nI L, nI s, zd_sf up fl, co, D.1, D.2.1, D.2.2, us, zd_pk sd rc og ps pa pb, mk, cm, wk) (nI j) :=
  br_f (nI_pos (by omega)) (br_t (nI_lt hj (by omega)) h)
theorem zy_bad1 {post : Int32 → Prop} {v : Int32} (hv : zd_no n v) (h : post 1) : wpY_bad post (nI n, nI l, nI L, nI s, zd_sf up fl, co, D.1, D.2.1, D.2.2, us, zd_pk sd rc og ps pa pb, mk, cm, wk) v := by
  by_cases h0 : v < 0
  · exact br_t h0 h
  · exact br_f h0 (br_f (zp_nlt (hv.resolve_left h0)) h)
theorem zy_bp0 {post : Int32 → Prop} {a b : Nat} (hn : n ≤ 8) (ha : a < n) (hb : b < n) (hab : a ≠ b) (h : post 0) : wpY_badPair post (nI n, nI l, nI L, nI s, zd_sf up fl, co, D.1, D.2.1, D.2.2, us, zd_pk sd rc og ps pa pb, mk, cm, wk) (nI a) (nI b) := by
  unfold wpY_badPair
  refine zy_bad0 hn ha ?_
  refine br_t rfl ?_
  refine zy_bad0 hn hb ?_
  exact br_t rfl (br_f (zp_ne (by omega) (by omega) hab) h)
theorem zy_bp1 {post : Int32 → Prop} {v w : Int32} (hn : n ≤ 8) (hv : ¬ zd_pr n v w) (h : post 1) : wpY_badPair post (nI n, nI l, nI L, nI s, zd_sf up fl, co, D.1, D.2.1, D.2.2, us, zd_pk sd rc og ps pa pb, mk, cm, wk) v w := by
  unfold wpY_badPair
  rcases zp_ix n (by omega) v with h1 | ⟨a, ha, rfl⟩
  · refine zy_bad1 h1 ?_
    exact br_f zp_10 h
  · refine zy_bad0 hn ha ?_
    refine br_t rfl ?_
    rcases zp_ix n (by omega) w with h2 | ⟨b, hb, rfl⟩
    · refine zy_bad1 h2 ?_
      exact br_f zp_10 h
    · refine zy_bad0 hn hb ?_
      refine br_t rfl ?_
      by_cases e : a = b
      · exact br_t (congrArg nI e) h
      · exact absurd ⟨a, b, ha, hb, e, rfl, rfl⟩ hv
theorem zy_np0 {post : Int32 → Prop} {i : Nat} (hs : s ≤ 16) (hi : i < s) (hu : ¬ us i = 0) (hp : post 0) : wpY_noPacket post (nI n, nI l, nI L, nI s, zd_sf up fl, co, D.1, D.2.1, D.2.2, us, zd_pk sd rc og ps pa pb, mk, cm, wk) (nI i) :=
  br_f (nI_pos (by omega)) (br_f (nI_ge hi (by omega)) (And.intro (vp_in_nI (by omega) (by omega)) (zb_f (by omega) hu hp)))
theorem zy_np1 {post : Int32 → Prop} {i : Nat} (hs : s ≤ 16) (hi : i < s) (hu : us i = 0) (hp : post 1) : wpY_noPacket post (nI n, nI l, nI L, nI s, zd_sf up fl, co, D.1, D.2.1, D.2.2, us, zd_pk sd rc og ps pa pb, mk, cm, wk) (nI i) :=
  br_f (nI_pos (by omega)) (br_f (nI_ge hi (by omega)) (And.intro (vp_in_nI (by omega) (by omega)) (zb_t (by omega) hu hp)))
theorem zy_npn {post : Int32 → Prop} {v : Int32} (hv : zd_no s v) (h : post 1) : wpY_noPacket post (nI n, nI l, nI L, nI s, zd_sf up fl, co, D.1, D.2.1, D.2.2, us, zd_pk sd rc og ps pa pb, mk, cm, wk) v := by
  by_cases h0 : v < 0
  · exact br_t h0 h
  · exact br_f h0 (br_t (hv.resolve_left h0) h)
theorem zy_newer {post : Int32 → Prop} {s0 a0 b0 t0 c0 d0 : Int32} (hp : post (zd_b (zd_nw (nI L) s0 a0 b0 t0 c0 d0))) : wpY_newer post (nI n, nI l, nI L, nI s, zd_sf up fl, co, D.1, D.2.1, D.2.2, us, zd_pk sd rc og ps pa pb, mk, cm, wk) s0 a0 b0 t0 c0 d0 := by
  unfold zd_nw at hp
  by_cases h1 : s0 = 0
  · rw [if_pos h1] at hp; exact br_t h1 hp
  rw [if_neg h1] at hp
  refine br_f h1 ?_
  by_cases h2 : t0 = 0
  · rw [if_pos h2] at hp
    refine br_t h2 ?_
    by_cases h3 : a0 = nI L
    · rw [if_pos h3] at hp; exact br_t h3 hp
    · rw [if_neg h3] at hp; exact br_f h3 hp
  rw [if_neg h2] at hp
  refine br_f h2 ?_
  have last : post (zd_b (if a0 = c0 then (if b0 ≤ d0 then false else true) else (if c0 ≤ a0 then false else true))) → ((a0 = c0 → (((b0 ≤ d0 → (post 0)) ∧ (¬ b0 ≤ d0 → (post 1))))) ∧ (¬ a0 = c0 → (((c0 ≤ a0 → (post 0)) ∧ (¬ c0 ≤ a0 → (post 1)))))) := by
    intro hq
    by_cases g1 : a0 = c0
    · rw [if_pos g1] at hq
      refine br_t g1 ?_
      by_cases g2 : b0 ≤ d0
      · rw [if_pos g2] at hq; exact br_t g2 hq
      · rw [if_neg g2] at hq; exact br_f g2 hq
    · rw [if_neg g1] at hq
      refine br_f g1 ?_
      by_cases g2 : c0 ≤ a0
      · rw [if_pos g2] at hq; exact br_t g2 hq
      · rw [if_neg g2] at hq; exact br_f g2 hq
  by_cases h4 : s0 = t0
  · rw [if_pos h4] at hp
    refine br_t h4 ?_
    by_cases h3 : a0 = nI L
    · rw [if_pos h3] at hp
      refine br_t h3 ?_
      by_cases h5 : c0 = nI L
      · rw [if_pos h5] at hp
        exact br_t h5 (br_t rfl (last hp))
      · rw [if_neg h5] at hp
        exact br_f h5 (br_f (by decide) (br_t h3 hp))
    · rw [if_neg h3] at hp
      refine br_f h3 ?_
      by_cases h5 : c0 = nI L
      · rw [if_pos h5] at hp
        exact br_t h5 (br_f (by decide) (br_f h3 hp))
      · rw [if_neg h5] at hp
        exact br_f h5 (br_t rfl (last hp))
  · rw [if_neg h4] at hp
    refine br_f h4 ?_
    by_cases h6 : s0 ≤ t0
    · rw [if_pos h6] at hp; exact br_t h6 hp
    · rw [if_neg h6] at hp; exact br_f h6 hp
theorem zy_beats {post : Int32 → Prop} {a b o : Nat} (ha : a < 8) (hb : b < 8) (ho : o < 8) (hp : post (zd_b (zd_nw (nI L) (D.1 (a * 8 + o)) (D.2.1 (a * 8 + o)) (D.2.2 (a * 8 + o)) (D.1 (b * 8 + o)) (D.2.1 (b * 8 + o)) (D.2.2 (b * 8 + o))))) : wpY_beats post (nI n, nI l, nI L, nI s, zd_sf up fl, co, D.1, D.2.1, D.2.2, us, zd_pk sd rc og ps pa pb, mk, cm, wk) (nI a) (nI b) (nI o) := by
  unfold wpY_beats
  refine nm_r (zp_cell a o) ?_
  refine nm_r (zp_cell b o) ?_
  have hi : vp_in (nI (a * 8 + o)) 64 := vp_in_nI (by omega) (by omega)
  have hj : vp_in (nI (b * 8 + o)) 64 := vp_in_nI (by omega) (by omega)
  refine And.intro hi (And.intro hi (And.intro hi (And.intro hj (And.intro hj (And.intro hj ?_)))))
  rw [nI_clamp (n := a * 8 + o) (by omega), nI_clamp (n := b * 8 + o) (by omega)]
  refine zy_newer ?_
  exact And.intro (zp_narb _) hp
theorem zy_store {post : SY → Prop} {r o : Nat} {s0 a0 b0 : Int32} (hr : r < 8) (ho : o < 8) (hp : post (nI n, nI l, nI L, nI s, zd_sf up fl, co, (zd_st D (r * 8 + o) s0 a0 b0).1, (zd_st D (r * 8 + o) s0 a0 b0).2.1, (zd_st D (r * 8 + o) s0 a0 b0).2.2, us, zd_pk sd rc og ps pa pb, mk, cm, wk)) : wpY_store post (nI n, nI l, nI L, nI s, zd_sf up fl, co, D.1, D.2.1, D.2.2, us, zd_pk sd rc og ps pa pb, mk, cm, wk) (nI r) (nI o) s0 a0 b0 := by
  unfold wpY_store
  rw [zp_cell]
  have hi : vp_in (nI (r * 8 + o)) 64 := vp_in_nI (by omega) (by omega)
  refine And.intro hi ?_
  refine nm_r (zp_up (by omega)) ?_
  refine And.intro hi ?_
  refine nm_r (zp_up (by omega)) ?_
  refine And.intro hi ?_
  refine nm_r (zp_up (by omega)) ?_
  exact hp
theorem zy_orig {post : SY → Prop} {r : Nat} (hfu : ∀ i, ¬ fl i = 0 → ¬ up i = 0) (hn : n ≤ 8) (hr : r < 8) (hp : post (nI n, nI l, nI L, nI s, zd_sf up fl, co, (zd_og n l L fl co D r).1, (zd_og n l L fl co D r).2.1, (zd_og n l L fl co D r).2.2, us, zd_pk sd rc og ps pa pb, mk, cm, wk)) : wpY_originate post (nI n, nI l, nI L, nI s, zd_sf up fl, co, D.1, D.2.1, D.2.2, us, zd_pk sd rc og ps pa pb, mk, cm, wk) (nI r) := by
  unfold wpY_originate
  rw [zp_cell]
  refine And.intro (vp_in_nI (by omega) (by omega)) ?_
  refine nm_r (zp_rd (by omega)) ?_
  refine zp_l0 (fun m i => wY_originate_20 post (nI r) (D.1 (r * 8 + r)) (nI n) (nI l) (nI L) (nI s) (zd_sf up fl) co D.1 D.2.1 D.2.2 us (zd_pk sd rc og ps pa pb) mk cm wk m (zd_ls fl co r i) (nI (8 ^ i)) (nI i)) n ?_ ?_
  · intro m
    refine br_t (nI_le (Nat.le_refl n) (by omega)) ?_
    unfold zd_og at hp
    by_cases hl : nI l ≤ D.1 (r * 8 + r)
    · rw [if_pos hl] at hp
      refine br_t hl ?_
      refine zy_store hr hr ?_
      exact hp
    · rw [if_neg hl] at hp
      refine br_f hl ?_
      refine zy_store hr hr ?_
      exact hp
  · intro m i hi h
    refine br_f (nI_ge hi (by omega)) ?_
    rw [zp_cell]
    refine And.intro (vp_in_nI (by omega) (by omega)) ?_
    have e8 : nI (8 ^ i) * 8 = nI (8 ^ (i + 1)) := by rw [zp_8, pk_mul, Nat.pow_succ]
    by_cases hf : fl (r * 8 + i) = 0
    · have e : zd_ls fl co r (i + 1) = zd_ls fl co r i := if_pos hf
      rw [e] at h
      refine zb_f (by omega) (fun z => (zp_sf2.mp z).2 hf) ?_
      refine nm_r e8 ?_
      exact nm_r (nI_1 i) h
    · have e : zd_ls fl co r (i + 1) = zd_ls fl co r i + (co (r * 8 + i) * nI (8 ^ i)) := (if_neg hf).trans (by rw [zp_shm (by omega)])
      rw [e] at h
      refine zb_t (by omega) (zp_sf2.mpr ⟨hfu _ hf, hf⟩) ?_
      refine And.intro (vp_in_nI (by omega) (by omega)) ?_
      refine nm_r (e' := zd_ls fl co r i + (co (r * 8 + i) * nI (8 ^ i))) (by rw [nI_clamp (by omega)]) ?_
      refine nm_r e8 ?_
      exact nm_r (nI_1 i) h
theorem zy_receive {post : SY → Prop} {r o : Nat} {s0 a0 b0 : Int32} (hfu : ∀ i, ¬ fl i = 0 → ¬ up i = 0) (hn : n ≤ 8) (hr : r < 8) (ho : o < 8)
    (hp : post (nI n, nI l, nI L, nI s, zd_sf up fl, co, (if r = o then zd_og n l L fl co (zd_st D (r * 8 + o) s0 a0 b0) r else zd_st D (r * 8 + o) s0 a0 b0).1, (if r = o then zd_og n l L fl co (zd_st D (r * 8 + o) s0 a0 b0) r else zd_st D (r * 8 + o) s0 a0 b0).2.1, (if r = o then zd_og n l L fl co (zd_st D (r * 8 + o) s0 a0 b0) r else zd_st D (r * 8 + o) s0 a0 b0).2.2, us, zd_pk sd rc og ps pa pb, mk, cm, wk)) : wpY_receive post (nI n, nI l, nI L, nI s, zd_sf up fl, co, D.1, D.2.1, D.2.2, us, zd_pk sd rc og ps pa pb, mk, cm, wk) (nI r) (nI o) s0 a0 b0 := by
  unfold wpY_receive
  refine zy_store hr ho ?_
  by_cases e : r = o
  · rw [if_pos e] at hp
    refine br_t (congrArg nI e) ?_
    refine zy_orig hfu hn hr ?_
    exact hp
  · rw [if_neg e] at hp
    exact br_f (zp_ne (by omega) (by omega) e) hp
theorem zy_setLink {post : SY → Prop} {a b : Nat} {v : Int32} (ha : a < 8) (hb : b < 8) (hp : post (nI n, nI l, nI L, nI s, upd (upd (zd_sf up fl) (a * 8 + b) v) (b * 8 + a) v, co, D.1, D.2.1, D.2.2, us, zd_pk sd rc og ps pa pb, mk, cm, wk)) : wpY_setLink post (nI n, nI l, nI L, nI s, zd_sf up fl, co, D.1, D.2.1, D.2.2, us, zd_pk sd rc og ps pa pb, mk, cm, wk) (nI a) (nI b) v := by
  unfold wpY_setLink
  rw [zp_cell, zp_cell]
  refine And.intro (vp_in_nI (by omega) (by omega)) ?_
  refine nm_r (zp_up (by omega)) ?_
  refine And.intro (vp_in_nI (by omega) (by omega)) ?_
  refine nm_r (zp_up (by omega)) ?_
  exact hp
end
end
section
/- pure pictures of the loops, and the component's loops -/
/-- slots freed, k done -/
def zd_fr (c : Nat → Bool) (us : Nat → Int32) : Nat → Nat → Int32
  | 0 => us
  | k + 1 => if c k = true then upd (zd_fr c us k) k 0 else zd_fr c us k
/-- full links of r reopened: the array and the set -/
def zd_ro (fl : Nat → Int32) (r : Nat) : Nat → (Nat → Int32) × Int32
  | 0 => (fl, 0)
  | k + 1 => if (zd_ro fl r k).1 (r * 8 + k) = 0 then zd_ro fl r k else (upd (upd (zd_ro fl r k).1 (r * 8 + k) 0) (k * 8 + r) 0, (zd_ro fl r k).2 ||| ((1 : Int32) <<< (nI k &&& 31)))
/-- all routers of a set originate -/
def zd_oa (n l L : Nat) (fl co : Nat → Int32) (c : Nat → Bool) (D : zd_DB) : Nat → zd_DB
  | 0 => D
  | k + 1 => if c k = true then zd_og n l L fl co (zd_oa n l L fl co c D k) k else zd_oa n l L fl co c D k
/-- a row cleared -/
def zd_cr (D : zd_DB) (r : Nat) : Nat → zd_DB
  | 0 => D
  | k + 1 => zd_st (zd_cr D r k) (r * 8 + k) 0 0 0
/-- a set of what is owed -/
def zd_ow (c : Nat → Bool) : Nat → Int32
  | 0 => 0
  | k + 1 => if c k = true then zd_ow c k ||| ((1 : Int32) <<< (nI k &&& 31)) else zd_ow c k
/-- the first i < e with c, or e -/
def zd_sr (c : Nat → Bool) : Nat → Nat → Nat
  | i, 0 => i
  | i, d + 1 => if c i = true then i else zd_sr c (i + 1) d
theorem zp_sr (c : Nat → Bool) : ∀ d i, i ≤ zd_sr c i d ∧ zd_sr c i d ≤ i + d ∧ (∀ j, i ≤ j → j < zd_sr c i d → c j = false) ∧ (zd_sr c i d < i + d → c (zd_sr c i d) = true) := by
  intro d
  induction d with
  | zero => intro i; exact ⟨Nat.le_refl _, Nat.le_refl _, fun j h1 h2 => by unfold zd_sr at h2; omega, fun h => by unfold zd_sr at h; omega⟩
  | succ d ih =>
    intro i
    by_cases h : c i = true
    · have e : zd_sr c i (d + 1) = i := if_pos h
      rw [e]
      exact ⟨Nat.le_refl _, by omega, fun j h1 h2 => by omega, fun _ => h⟩
    · have e : zd_sr c i (d + 1) = zd_sr c (i + 1) d := if_neg h
      rw [e]
      obtain ⟨h1, h2, h3, h4⟩ := ih (i + 1)
      refine ⟨by omega, by omega, fun j hj hj2 => ?_, fun hz => h4 (by omega)⟩
      by_cases hji : j = i
      · rw [hji]; exact zp_nf h
      · exact h3 j (by omega) hj2
theorem zp_sr0 (c : Nat → Bool) (e : Nat) : zd_sr c 0 e ≤ e ∧ (∀ j, j < zd_sr c 0 e → c j = false) ∧ (zd_sr c 0 e < e → c (zd_sr c 0 e) = true) := by
  obtain ⟨_, h2, h3, h4⟩ := zp_sr c e 0
  exact ⟨by omega, fun j hj => h3 j (by omega) hj, fun h => h4 (by omega)⟩
/-- marks over the square, up to cell t -/
def zd_mk (n : Nat) (c : Nat → Bool) (m0 : Nat → Int32) (t : Nat) : Nat → Int32 := fun h => if h < t ∧ h % 8 < n then zd_b (c h) else m0 h
theorem zp_mk0 (n : Nat) (c : Nat → Bool) (m0 : Nat → Int32) : zd_mk n c m0 0 = m0 := by
  funext h
  exact if_neg (by omega)
theorem zp_mk1 {n a o : Nat} (c : Nat → Bool) (m0 : Nat → Int32) (ho : o < n) (hn : n ≤ 8) : upd (zd_mk n c m0 (a * 8 + o)) (a * 8 + o) (zd_b (c (a * 8 + o))) = zd_mk n c m0 (a * 8 + (o + 1)) := by
  funext h
  unfold upd zd_mk
  by_cases e : h = a * 8 + o
  · rw [if_pos e, if_pos (by omega), e]
  · rw [if_neg e]
    by_cases g : h < a * 8 + o ∧ h % 8 < n
    · rw [if_pos g, if_pos (by omega)]
    · rw [if_neg g, if_neg (by omega)]
theorem zp_mk2 {n a : Nat} (c : Nat → Bool) (m0 : Nat → Int32) (hn : n ≤ 8) : zd_mk n c m0 (a * 8 + n) = zd_mk n c m0 ((a + 1) * 8) := by
  funext h
  unfold zd_mk
  by_cases g : h < a * 8 + n ∧ h % 8 < n
  · rw [if_pos g, if_pos (by omega)]
  · rw [if_neg g, if_neg (by omega)]
/-- removal of the marked, cell by cell: copies and count -/
def zd_rv (c : Nat → Bool) (D : zd_DB) : Nat → zd_DB × Nat
  | 0 => (D, 0)
  | k + 1 => if c k = true then (zd_st (zd_rv c D k).1 k 0 0 0, (zd_rv c D k).2 + 1) else zd_rv c D k
/-- copies older by one tick -/
def zd_ac (L : Nat) (D : zd_DB) : Nat → zd_DB
  | 0 => D
  | k + 1 =>
    if (zd_ac L D k).1 k = 0 then zd_ac L D k
    else if nI L ≤ (zd_ac L D k).2.1 k then zd_ac L D k
    else if (zd_ac L D k).2.1 k + 1 = nI L then ((zd_ac L D k).1, upd (zd_ac L D k).2.1 k ((zd_ac L D k).2.1 k + 1), upd (zd_ac L D k).2.2 k 0)
    else ((zd_ac L D k).1, upd (zd_ac L D k).2.1 k ((zd_ac L D k).2.1 k + 1), (zd_ac L D k).2.2)
/-- packets older by one tick -/
def zd_ap (L : Nat) (us pa pb : Nat → Int32) : Nat → (Nat → Int32) × (Nat → Int32)
  | 0 => (pa, pb)
  | k + 1 =>
    if us k = 0 then zd_ap L us pa pb k
    else if nI L ≤ (zd_ap L us pa pb k).1 k then zd_ap L us pa pb k
    else if (zd_ap L us pa pb k).1 k + 1 = nI L then (upd (zd_ap L us pa pb k).1 k ((zd_ap L us pa pb k).1 k + 1), upd (zd_ap L us pa pb k).2 k 0)
    else (upd (zd_ap L us pa pb k).1 k ((zd_ap L us pa pb k).1 k + 1), (zd_ap L us pa pb k).2)
/-- old or gone: to be originated anew -/
def zd_rn (L : Nat) (D : zd_DB) (k : Nat) : Bool := decide (D.1 (k * 8 + k) = 0) || (decide (¬ D.2.1 (k * 8 + k) = nI L) && decide (¬ D.2.1 (k * 8 + k) < nI L / 2))
def zd_rf (n l L : Nat) (fl co : Nat → Int32) (D : zd_DB) : Nat → zd_DB
  | 0 => D
  | k + 1 => if zd_rn L (zd_rf n l L fl co D k) k = true then zd_og n l L fl co (zd_rf n l L fl co D k) k else zd_rf n l L fl co D k
section
variable {n l L s : Nat} {D : zd_DB} {up fl co us sd rc og ps pa pb rm ds se : Nat → Int32}
theorem zx_rpb {post : SX → Prop} {a b : Int32} (hs : s ≤ 16) (hp : post (nI n, nI l, nI L, nI s, D.1, D.2.1, D.2.2, up, fl, co, zd_fr (fun i => (decide (sd i = a) && decide (rc i = b)) || (decide (sd i = b) && decide (rc i = a))) us s, sd, rc, og, ps, pa, pb, rm, ds, se)) : wpX_removePacketsBetween post (nI n, nI l, nI L, nI s, D.1, D.2.1, D.2.2, up, fl, co, us, sd, rc, og, ps, pa, pb, rm, ds, se) a b := by
  refine zp_l0 (fun m i => wX_removePacketsBetween_2 post a b (nI n) (nI l) (nI L) (nI s) m (nI i) D.1 D.2.1 D.2.2 up fl co (zd_fr (fun i => (decide (sd i = a) && decide (rc i = b)) || (decide (sd i = b) && decide (rc i = a))) us i) sd rc og ps pa pb rm ds se) s ?_ ?_
  · intro m
    exact br_t (nI_le (Nat.le_refl s) (by omega)) hp
  · intro m i hi h
    have hv : vp_in (nI i) 16 := vp_in_nI (by omega) (by omega)
    have c31 : i < 2 ^ 31 := by omega
    refine br_f (nI_ge hi (by omega)) (And.intro hv ?_)
    generalize hc : (fun i => (decide (sd i = a) && decide (rc i = b)) || (decide (sd i = b) && decide (rc i = a))) = c at h ⊢
    have hci : c i = ((decide (sd i = a) && decide (rc i = b)) || (decide (sd i = b) && decide (rc i = a))) := by rw [← hc]
    have yes : c i = true → ∀ w, wX_removePacketsBetween_62 post (wX_removePacketsBetween_2 post a b (nI n) (nI l) (nI L) (nI s) m) a b (nI i) 1 w (nI n) (nI l) (nI L) (nI s) D.1 D.2.1 D.2.2 up fl co (zd_fr c us i) sd rc og ps pa pb rm ds se := fun e w => by
      refine br_f zp_10 (And.intro hv ?_)
      refine nm_r (zp_un c31 zp_n0) ?_
      refine nm_r (nI_1 i) ?_
      have e2 : zd_fr c us (i + 1) = upd (zd_fr c us i) i 0 := if_pos e
      rw [← e2]; exact h
    have yes0 : c i = true → wX_removePacketsBetween_62 post (wX_removePacketsBetween_2 post a b (nI n) (nI l) (nI L) (nI s) m) a b (nI i) 0 1 (nI n) (nI l) (nI L) (nI s) D.1 D.2.1 D.2.2 up fl co (zd_fr c us i) sd rc og ps pa pb rm ds se := fun e => by
      refine br_t rfl (br_f zp_10 (And.intro hv ?_))
      refine nm_r (zp_un c31 zp_n0) ?_
      refine nm_r (nI_1 i) ?_
      have e2 : zd_fr c us (i + 1) = upd (zd_fr c us i) i 0 := if_pos e
      rw [← e2]; exact h
    have no : c i = false → wX_removePacketsBetween_62 post (wX_removePacketsBetween_2 post a b (nI n) (nI l) (nI L) (nI s) m) a b (nI i) 0 0 (nI n) (nI l) (nI L) (nI s) D.1 D.2.1 D.2.2 up fl co (zd_fr c us i) sd rc og ps pa pb rm ds se := fun e => by
      refine br_t rfl (br_t rfl ?_)
      refine nm_r (nI_1 i) ?_
      have e2 : zd_fr c us (i + 1) = zd_fr c us i := if_neg (by rw [e]; decide)
      rw [← e2]; exact h
    have back : (decide (sd i = a) && decide (rc i = b)) = false → wX_removePacketsBetween_35 post (wX_removePacketsBetween_2 post a b (nI n) (nI l) (nI L) (nI s) m) a b (nI i) 0 (nI n) (nI l) (nI L) (nI s) D.1 D.2.1 D.2.2 up fl co (zd_fr c us i) sd rc og ps pa pb rm ds se := fun e => by
      rw [e, Bool.false_or] at hci
      refine And.intro hv ?_
      by_cases h1 : sd i = b
      · refine zb_t c31 h1 (And.intro hv ?_)
        by_cases h2 : rc i = a
        · exact zb_t c31 h2 (yes0 (by rw [hci, decide_eq_true h1, decide_eq_true h2]; rfl))
        · exact zb_f c31 h2 (no (by rw [hci, decide_eq_false h2, Bool.and_false]))
      · exact zb_f c31 h1 (no (by rw [hci, decide_eq_false h1, Bool.false_and]))
    by_cases h1 : sd i = a
    · refine zb_t c31 h1 (And.intro hv ?_)
      by_cases h2 : rc i = b
      · refine zb_t c31 h2 ?_
        have ht : c i = true := by rw [hci, decide_eq_true h1, decide_eq_true h2]; rfl
        refine And.intro hv ?_
        by_cases h3 : sd i = b
        · refine zb_t c31 h3 (And.intro hv ?_)
          by_cases h4 : rc i = a
          · exact zb_t c31 h4 (yes ht 1)
          · exact zb_f c31 h4 (yes ht 0)
        · exact zb_f c31 h3 (yes ht 0)
      · exact zb_f c31 h2 (back (by rw [decide_eq_false h2, Bool.and_false]))
    · exact zb_f c31 h1 (back (by rw [decide_eq_false h1, Bool.false_and]))
theorem zx_rpo {post : SX → Prop} {a : Int32} (hs : s ≤ 16) (hp : post (nI n, nI l, nI L, nI s, D.1, D.2.1, D.2.2, up, fl, co, zd_fr (fun i => decide (sd i = a) || decide (rc i = a)) us s, sd, rc, og, ps, pa, pb, rm, ds, se)) : wpX_removePacketsOf post (nI n, nI l, nI L, nI s, D.1, D.2.1, D.2.2, up, fl, co, us, sd, rc, og, ps, pa, pb, rm, ds, se) a := by
  refine zp_l0 (fun m i => wX_removePacketsOf_2 post a (nI n) (nI l) (nI L) (nI s) m (nI i) D.1 D.2.1 D.2.2 up fl co (zd_fr (fun i => decide (sd i = a) || decide (rc i = a)) us i) sd rc og ps pa pb rm ds se) s ?_ ?_
  · intro m
    exact br_t (nI_le (Nat.le_refl s) (by omega)) hp
  · intro m i hi h
    have hv : vp_in (nI i) 16 := vp_in_nI (by omega) (by omega)
    have c31 : i < 2 ^ 31 := by omega
    refine br_f (nI_ge hi (by omega)) (And.intro hv ?_)
    generalize hc : (fun i => decide (sd i = a) || decide (rc i = a)) = c at h ⊢
    have hci : c i = (decide (sd i = a) || decide (rc i = a)) := by rw [← hc]
    by_cases h1 : sd i = a
    · refine zb_t c31 h1 (And.intro hv ?_)
      refine nm_r (zp_un c31 zp_n0) ?_
      refine nm_r (nI_1 i) ?_
      have e2 : zd_fr c us (i + 1) = upd (zd_fr c us i) i 0 := if_pos (by rw [hci, decide_eq_true h1]; rfl)
      rw [← e2]; exact h
    · refine zb_f c31 h1 (And.intro hv ?_)
      by_cases h2 : rc i = a
      · refine zb_t c31 h2 (And.intro hv ?_)
        refine nm_r (zp_un c31 zp_n0) ?_
        refine nm_r (nI_1 i) ?_
        have e2 : zd_fr c us (i + 1) = upd (zd_fr c us i) i 0 := if_pos (by rw [hci, decide_eq_true h2, Bool.or_true])
        rw [← e2]; exact h
      · refine zb_f c31 h2 ?_
        refine nm_r (nI_1 i) ?_
        have e2 : zd_fr c us (i + 1) = zd_fr c us i := if_neg (by rw [hci, decide_eq_false h1, decide_eq_false h2]; decide)
        rw [← e2]; exact h
theorem zx_reopen {post : Int32 → SX → Prop} {r : Nat} (hn : n ≤ 8) (hr : r < 8) (hp : post (zd_ro fl r n).2 (nI n, nI l, nI L, nI s, D.1, D.2.1, D.2.2, up, (zd_ro fl r n).1, co, us, sd, rc, og, ps, pa, pb, rm, ds, se)) : wpX_reopenLinks post (nI n, nI l, nI L, nI s, D.1, D.2.1, D.2.2, up, fl, co, us, sd, rc, og, ps, pa, pb, rm, ds, se) (nI r) := by
  refine zp_l0 (fun m i => wX_reopenLinks_4 post (nI r) m (zd_ro fl r i).2 (nI i) (nI n) (nI l) (nI L) (nI s) D.1 D.2.1 D.2.2 up ((zd_ro fl r i).1) co us sd rc og ps pa pb rm ds se) n ?_ ?_
  · intro m
    exact br_t (nI_le (Nat.le_refl n) (by omega)) hp
  · intro m i hi h
    refine br_f (nI_ge hi (by omega)) ?_
    refine zx_cell r i ?_
    refine And.intro (vp_in_nI (by omega) (by omega)) ?_
    by_cases hf : (zd_ro fl r i).1 (r * 8 + i) = 0
    · refine zb_t (by omega) hf ?_
      refine nm_r (nI_1 i) ?_
      have e2 : zd_ro fl r (i + 1) = zd_ro fl r i := if_pos hf
      rw [← e2]; exact h
    · refine zb_f (by omega) hf ?_
      refine zx_setFull hr (by omega) zp_n0 ?_
      have e2 : zd_ro fl r (i + 1) = (upd (upd (zd_ro fl r i).1 (r * 8 + i) 0) (i * 8 + r) 0, (zd_ro fl r i).2 ||| ((1 : Int32) <<< (nI i &&& 31))) := if_neg hf
      refine nm_e ?_
      refine nm_r (nI_1 i) ?_
      rw [e2] at h; exact h
theorem zx_oa {post : SX → Prop} {x : Int32} {c : Nat → Bool} (hn : n ≤ 8) (hc : ∀ i, i < n → bt x i = c i) (hp : post (nI n, nI l, nI L, nI s, (zd_oa n l L fl co c D n).1, (zd_oa n l L fl co c D n).2.1, (zd_oa n l L fl co c D n).2.2, up, fl, co, us, sd, rc, og, ps, pa, pb, rm, ds, se)) : wpX_originateAll post (nI n, nI l, nI L, nI s, D.1, D.2.1, D.2.2, up, fl, co, us, sd, rc, og, ps, pa, pb, rm, ds, se) x := by
  refine zp_l0 (fun m i => wX_originateAll_2 post x m (nI i) (nI n) (nI l) (nI L) (nI s) ((zd_oa n l L fl co c D i).1) ((zd_oa n l L fl co c D i).2.1) ((zd_oa n l L fl co c D i).2.2) up fl co us sd rc og ps pa pb rm ds se) n ?_ ?_
  · intro m
    exact br_t (nI_le (Nat.le_refl n) (by omega)) hp
  · intro m i hi h
    refine br_f (nI_ge hi (by omega)) ?_
    refine zx_contains (by omega) ?_
    rw [hc i hi]
    refine zb_b (fun e => ?_) (fun e => ?_)
    · refine nm_r (nI_1 i) ?_
      have e2 : zd_oa n l L fl co c D (i + 1) = zd_oa n l L fl co c D i := if_neg (by rw [e]; decide)
      rw [← e2]; exact h
    · have e2 : zd_oa n l L fl co c D (i + 1) = zd_og n l L fl co (zd_oa n l L fl co c D i) i := if_pos e
      rw [e2] at h
      refine zx_orig hn (by omega) ?_
      exact nm_r (nI_1 i) h
theorem zx_restart {post : Int32 → SX → Prop} {r : Nat} {c : Nat → Bool} (hn : n ≤ 8) (hs : s ≤ 16) (hr : r < n) (hc : ∀ i, i < n → bt (zd_ro fl r n).2 i = c i)
    (hp : post 1 (nI n, nI l, nI L, nI s, (zd_oa n l L (zd_ro fl r n).1 co c (zd_og n l L (zd_ro fl r n).1 co (zd_cr D r n) r) n).1, (zd_oa n l L (zd_ro fl r n).1 co c (zd_og n l L (zd_ro fl r n).1 co (zd_cr D r n) r) n).2.1, (zd_oa n l L (zd_ro fl r n).1 co c (zd_og n l L (zd_ro fl r n).1 co (zd_cr D r n) r) n).2.2, up, (zd_ro fl r n).1, co, zd_fr (fun i => decide (sd i = nI r) || decide (rc i = nI r)) us s, sd, rc, og, ps, pa, pb, rm, ds, se)) : wpX_restart post (nI n, nI l, nI L, nI s, D.1, D.2.1, D.2.2, up, fl, co, us, sd, rc, og, ps, pa, pb, rm, ds, se) (nI r) := by
  unfold wpX_restart
  refine zx_valid1 hn hr ?_
  refine br_f zp_10 ?_
  refine zx_rpo hs ?_
  refine zx_reopen hn (by omega) ?_
  refine zp_l0 (fun m i => wX_restart_23 post (nI r) (zd_ro fl r n).2 m (nI i) (nI n) (nI l) (nI L) (nI s) ((zd_cr D r i).1) ((zd_cr D r i).2.1) ((zd_cr D r i).2.2) up ((zd_ro fl r n).1) co (zd_fr (fun i => decide (sd i = nI r) || decide (rc i = nI r)) us s) sd rc og ps pa pb rm ds se) n ?_ ?_
  · intro m
    refine br_t (nI_le (Nat.le_refl n) (by omega)) ?_
    refine zx_orig hn (by omega) ?_
    refine zx_oa hn hc ?_
    exact hp
  · intro m i hi h
    refine br_f (nI_ge hi (by omega)) ?_
    refine zx_cell r i ?_
    refine zx_store (by omega) ?_
    exact nm_r (nI_1 i) h
theorem zx_owed {post : Int32 → Prop} {a b : Nat} (hn : n ≤ 8) (ha : a < n) (hb : b < n) (hab : a ≠ b) (hu : ¬ up (a * 8 + b) = 0)
    (hp : post (zd_ow (fun o => zd_nw (nI L) (D.1 (a * 8 + o)) (D.2.1 (a * 8 + o)) (D.2.2 (a * 8 + o)) (D.1 (b * 8 + o)) (D.2.1 (b * 8 + o)) (D.2.2 (b * 8 + o))) n)) : wpX_owed post (nI n, nI l, nI L, nI s, D.1, D.2.1, D.2.2, up, fl, co, us, sd, rc, og, ps, pa, pb, rm, ds, se) (nI a) (nI b) := by
  unfold wpX_owed
  refine zx_lk1 hn ha hb hab hu ?_
  refine br_f zp_10 ?_
  revert hp
  generalize hc : (fun o => zd_nw (nI L) (D.1 (a * 8 + o)) (D.2.1 (a * 8 + o)) (D.2.2 (a * 8 + o)) (D.1 (b * 8 + o)) (D.2.1 (b * 8 + o)) (D.2.2 (b * 8 + o))) = c
  intro hp
  refine zp_l0 (fun m i => wX_owed_16 post (nI a) (nI b) (nI n) (nI l) (nI L) (nI s) D.1 D.2.1 D.2.2 up fl co us sd rc og ps pa pb rm ds se m (zd_ow c i) (nI i)) n ?_ ?_
  · intro m
    exact br_t (nI_le (Nat.le_refl n) (by omega)) hp
  · intro m i hi h
    refine br_f (nI_ge hi (by omega)) ?_
    refine zx_isOwed (by omega) (by omega) (by omega) ?_
    rw [decide_eq_true hu, Bool.true_and]
    have hci : c i = zd_nw (nI L) (D.1 (a * 8 + i)) (D.2.1 (a * 8 + i)) (D.2.2 (a * 8 + i)) (D.1 (b * 8 + i)) (D.2.1 (b * 8 + i)) (D.2.2 (b * 8 + i)) := by rw [← hc]
    rw [← hci]
    refine zb_b (fun e => ?_) (fun e => ?_)
    · refine nm_r (nI_1 i) ?_
      have e2 : zd_ow c (i + 1) = zd_ow c i := if_neg (by rw [e]; decide)
      rw [← e2]; exact h
    · have e2 : zd_ow c (i + 1) = zd_ow c i ||| ((1 : Int32) <<< (nI i &&& 31)) := if_pos e
      refine nm_e ?_
      refine nm_r (nI_1 i) ?_
      rw [← e2]; exact h
theorem zx_freeSlot1 {post : Int32 → Prop} (hs : s ≤ 16) (hq : zd_sr (fun i => decide (us i = 0)) 0 s < s) (hp : post (nI (zd_sr (fun i => decide (us i = 0)) 0 s))) : wpX_freeSlot post (nI n, nI l, nI L, nI s, D.1, D.2.1, D.2.2, up, fl, co, us, sd, rc, og, ps, pa, pb, rm, ds, se) := by
  obtain ⟨h1, h2, h3⟩ := zp_sr0 (fun i => decide (us i = 0)) s
  refine zp_l0 (fun m i => wX_freeSlot_2 post (nI n) (nI l) (nI L) (nI s) D.1 D.2.1 D.2.2 up fl co us sd rc og ps pa pb rm ds se m (nI i)) (zd_sr (fun i => decide (us i = 0)) 0 s) ?_ ?_
  · intro m
    refine br_f (nI_ge hq (by omega)) (And.intro (vp_in_nI (by omega) (by omega)) ?_)
    exact zb_t (by omega) (of_decide_eq_true (h3 hq)) hp
  · intro m i hi h
    refine br_f (nI_ge (by omega) (by omega)) (And.intro (vp_in_nI (by omega) (by omega)) ?_)
    exact zb_f (by omega) (of_decide_eq_false (h2 i hi)) (nm_r (nI_1 i) h)
theorem zx_freeSlot0 {post : Int32 → Prop} (hs : s ≤ 16) (hq : ¬ zd_sr (fun i => decide (us i = 0)) 0 s < s) (hp : post (-1)) : wpX_freeSlot post (nI n, nI l, nI L, nI s, D.1, D.2.1, D.2.2, up, fl, co, us, sd, rc, og, ps, pa, pb, rm, ds, se) := by
  obtain ⟨h1, h2, h3⟩ := zp_sr0 (fun i => decide (us i = 0)) s
  refine zp_l0 (fun m i => wX_freeSlot_2 post (nI n) (nI l) (nI L) (nI s) D.1 D.2.1 D.2.2 up fl co us sd rc og ps pa pb rm ds se m (nI i)) s ?_ ?_
  · intro m
    exact br_t (nI_le (Nat.le_refl s) (by omega)) hp
  · intro m i hi h
    refine br_f (nI_ge (by omega) (by omega)) (And.intro (vp_in_nI (by omega) (by omega)) ?_)
    exact zb_f (by omega) (of_decide_eq_false (h2 i (by omega))) (nm_r (nI_1 i) h)
end
end
section
/- the component's tick -/
/-- router b keeps a's copy of o needed -/
def zd_nc (L : Nat) (up fl : Nat → Int32) (D : zd_DB) (a o : Nat) : Nat → Bool := fun b => decide (¬ up (a * 8 + b) = 0 ∧ fl (a * 8 + b) = 0) || (decide (¬ up (a * 8 + b) = 0) && zd_nw (nI L) (D.1 (a * 8 + o)) (D.2.1 (a * 8 + o)) (D.2.2 (a * 8 + o)) (D.1 (b * 8 + o)) (D.2.1 (b * 8 + o)) (D.2.2 (b * 8 + o)))
/-- the copy in cell h is to be removed -/
def zd_rc (n L : Nat) (up fl : Nat → Int32) (D : zd_DB) (h : Nat) : Bool := decide (¬ D.1 h = 0 ∧ D.2.1 h = nI L) && !decide (zd_sr (zd_nc L up fl D (h / 8) (h % 8)) 0 n < n)
section
variable {n l L s : Nat} {D : zd_DB} {up fl co us sd rc og ps pa pb rm ds se : Nat → Int32}
theorem zx_isNeeded {post : Int32 → Prop} {a o : Nat} (hn : n ≤ 8) (ha : a < 8) (ho : o < 8) (hp : post (zd_b (decide (zd_sr (zd_nc L up fl D a o) 0 n < n)))) : wpX_isNeeded post (nI n, nI l, nI L, nI s, D.1, D.2.1, D.2.2, up, fl, co, us, sd, rc, og, ps, pa, pb, rm, ds, se) (nI a) (nI o) := by
  obtain ⟨h1, h2, h3⟩ := zp_sr0 (zd_nc L up fl D a o) n
  have cont : ∀ m i, i < n → zd_nc L up fl D a o i = false → wX_isNeeded_2 post (nI a) (nI o) (nI n) (nI l) (nI L) (nI s) D.1 D.2.1 D.2.2 up fl co us sd rc og ps pa pb rm ds se m (nI (i + 1)) → wX_isNeeded_2 post (nI a) (nI o) (nI n) (nI l) (nI L) (nI s) D.1 D.2.1 D.2.2 up fl co us sd rc og ps pa pb rm ds se (m + 1) (nI i) := by
    intro m i hi e h
    unfold zd_nc at e
    rw [Bool.or_eq_false_iff] at e
    refine br_f (nI_ge hi (by omega)) ?_
    refine zx_cell a i ?_
    refine zx_isOpen (by omega) ?_
    refine zb_b0 e.1 ?_
    refine zx_isOwed ha (by omega) ho ?_
    exact zb_b0 e.2 (nm_r (nI_1 i) h)
  by_cases hq : zd_sr (zd_nc L up fl D a o) 0 n < n
  · rw [decide_eq_true hq] at hp
    refine zp_l0 (fun m i => wX_isNeeded_2 post (nI a) (nI o) (nI n) (nI l) (nI L) (nI s) D.1 D.2.1 D.2.2 up fl co us sd rc og ps pa pb rm ds se m (nI i)) (zd_sr (zd_nc L up fl D a o) 0 n) ?_ ?_
    · intro m
      have e := h3 hq
      generalize zd_sr (zd_nc L up fl D a o) 0 n = i at *
      unfold zd_nc at e
      refine br_f (nI_ge hq (by omega)) ?_
      refine zx_cell a i ?_
      refine zx_isOpen (by omega) ?_
      refine zb_b (fun e0 => ?_) (fun _ => hp)
      rw [e0, Bool.false_or] at e
      refine zx_isOwed ha (by omega) ho ?_
      exact zb_b1 e hp
    · intro m i hi h
      exact cont m i (by omega) (h2 i hi) h
  · rw [decide_eq_false hq] at hp
    refine zp_l0 (fun m i => wX_isNeeded_2 post (nI a) (nI o) (nI n) (nI l) (nI L) (nI s) D.1 D.2.1 D.2.2 up fl co us sd rc og ps pa pb rm ds se m (nI i)) n ?_ ?_
    · intro m
      exact br_t (nI_le (Nat.le_refl n) (by omega)) hp
    · intro m i hi h
      exact cont m i hi (h2 i (by omega)) h
theorem zx_mark {post : SX → Prop} (hn : n ≤ 8) (hp : post (nI n, nI l, nI L, nI s, D.1, D.2.1, D.2.2, up, fl, co, us, sd, rc, og, ps, pa, pb, zd_mk n (zd_rc n L up fl D) rm (n * 8), ds, se)) : wpX_markRemovable post (nI n, nI l, nI L, nI s, D.1, D.2.1, D.2.2, up, fl, co, us, sd, rc, og, ps, pa, pb, rm, ds, se) := by
  have e0 := zp_mk0 n (zd_rc n L up fl D) rm
  have go : ∃ m, wX_markRemovable_2 post (nI n) (nI l) (nI L) (nI s) m (nI 0) D.1 D.2.1 D.2.2 up fl co us sd rc og ps pa pb (zd_mk n (zd_rc n L up fl D) rm (0 * 8)) ds se := by
    refine zp_l0 (fun m a => wX_markRemovable_2 post (nI n) (nI l) (nI L) (nI s) m (nI a) D.1 D.2.1 D.2.2 up fl co us sd rc og ps pa pb (zd_mk n (zd_rc n L up fl D) rm (a * 8)) ds se) n ?_ ?_
    · intro m
      exact br_t (nI_le (Nat.le_refl n) (by omega)) hp
    · intro m a ha h
      refine br_f (nI_ge ha (by omega)) ?_
      refine zp_l0 (fun k o => wX_markRemovable_12 post (wX_markRemovable_2 post (nI n) (nI l) (nI L) (nI s) m) (nI a) (nI n) (nI l) (nI L) (nI s) k (nI o) D.1 D.2.1 D.2.2 up fl co us sd rc og ps pa pb (zd_mk n (zd_rc n L up fl D) rm (a * 8 + o)) ds se) n ?_ ?_
      · intro k
        refine br_t (nI_le (Nat.le_refl n) (by omega)) ?_
        refine nm_r (nI_1 a) ?_
        rw [zp_mk2 _ _ hn]; exact h
      · intro k o ho g
        refine br_f (nI_ge ho (by omega)) ?_
        refine zx_cell a o ?_
        have hv : vp_in (nI (a * 8 + o)) 64 := vp_in_nI (by omega) (by omega)
        have hrc : zd_rc n L up fl D (a * 8 + o) = (decide (¬ D.1 (a * 8 + o) = 0 ∧ D.2.1 (a * 8 + o) = nI L) && !decide (zd_sr (zd_nc L up fl D a o) 0 n < n)) := by
          unfold zd_rc
          rw [show (a * 8 + o) / 8 = a by omega, show (a * 8 + o) % 8 = o by omega]
        have e1 := zp_mk1 (a := a) (zd_rc n L up fl D) rm ho hn
        refine zx_isPurged (by omega) ?_
        refine zb_b (fun e => ?_) (fun e => ?_)
        · rw [e, Bool.false_and] at hrc
          rw [hrc] at e1
          refine And.intro hv ?_
          refine nm_r ((zp_un (by omega) zp_n0).trans e1) ?_
          exact nm_r (nI_1 o) g
        · rw [e, Bool.true_and] at hrc
          refine zx_isNeeded hn (by omega) (by omega) ?_
          refine zb_b (fun e2 => ?_) (fun e2 => ?_)
          · rw [e2] at hrc
            rw [hrc] at e1
            refine And.intro hv ?_
            refine nm_r ((zp_un (by omega) zp_n1).trans e1) ?_
            exact nm_r (nI_1 o) g
          · rw [e2] at hrc
            rw [hrc] at e1
            refine And.intro hv ?_
            refine nm_r ((zp_un (by omega) zp_n0).trans e1) ?_
            exact nm_r (nI_1 o) g
  rw [Nat.zero_mul, e0] at go
  exact go
theorem zx_remove {post : Int32 → SX → Prop} {c : Nat → Bool} (hc : ∀ h, h < 64 → (rm h = 0 ↔ c h = false)) (hp : post (nI (zd_rv c D 64).2) (nI n, nI l, nI L, nI s, ((zd_rv c D 64).1).1, ((zd_rv c D 64).1).2.1, ((zd_rv c D 64).1).2.2, up, fl, co, us, sd, rc, og, ps, pa, pb, rm, ds, se)) : wpX_removeMarked post (nI n, nI l, nI L, nI s, D.1, D.2.1, D.2.2, up, fl, co, us, sd, rc, og, ps, pa, pb, rm, ds, se) := by
  refine zp_l0 (fun m i => wX_removeMarked_4 post m (nI (zd_rv c D i).2) (nI i) (nI n) (nI l) (nI L) (nI s) (((zd_rv c D i).1).1) (((zd_rv c D i).1).2.1) (((zd_rv c D i).1).2.2) up fl co us sd rc og ps pa pb rm ds se) 64 ?_ ?_
  · intro m
    exact br_t (nI_le (a := 64) (b := 64) (by omega) (by omega)) hp
  · intro m i hi h
    refine br_f (nI_ge (b := 64) hi (by omega)) (And.intro (vp_in_nI hi (by omega)) ?_)
    by_cases e : c i = true
    · refine zb_f (by omega) (fun z => absurd ((hc i hi).mp z) (by rw [e]; decide)) ?_
      refine zx_store hi ?_
      have e2 : zd_rv c D (i + 1) = (zd_st (zd_rv c D i).1 i 0 0 0, (zd_rv c D i).2 + 1) := if_pos e
      rw [e2] at h
      refine nm_r (nI_1 _) ?_
      exact nm_r (nI_1 i) h
    · refine zb_t (by omega) ((hc i hi).mpr (zp_nf e)) ?_
      have e2 : zd_rv c D (i + 1) = zd_rv c D i := if_neg e
      rw [e2] at h
      exact nm_r (nI_1 i) h
theorem zx_ageC {post : SX → Prop} (hp : post (nI n, nI l, nI L, nI s, (zd_ac L D 64).1, (zd_ac L D 64).2.1, (zd_ac L D 64).2.2, up, fl, co, us, sd, rc, og, ps, pa, pb, rm, ds, se)) : wpX_ageCopies post (nI n, nI l, nI L, nI s, D.1, D.2.1, D.2.2, up, fl, co, us, sd, rc, og, ps, pa, pb, rm, ds, se) := by
  refine zp_l0 (fun m i => wX_ageCopies_2 post (nI n) (nI l) (nI L) (nI s) m (nI i) ((zd_ac L D i).1) ((zd_ac L D i).2.1) ((zd_ac L D i).2.2) up fl co us sd rc og ps pa pb rm ds se) 64 ?_ ?_
  · intro m
    exact br_t (nI_le (a := 64) (b := 64) (by omega) (by omega)) hp
  · intro m i hi h
    have hv : vp_in (nI i) 64 := vp_in_nI hi (by omega)
    have c31 : i < 2 ^ 31 := by omega
    refine br_f (nI_ge (b := 64) hi (by omega)) (And.intro hv ?_)
    by_cases h1 : (zd_ac L D i).1 i = 0
    · have e2 : zd_ac L D (i + 1) = zd_ac L D i := if_pos h1
      rw [e2] at h
      exact zb_t c31 h1 (nm_r (nI_1 i) h)
    refine zb_f c31 h1 (And.intro hv ?_)
    by_cases h2 : nI L ≤ (zd_ac L D i).2.1 i
    · have e2 : zd_ac L D (i + 1) = zd_ac L D i := (if_neg h1).trans (if_pos h2)
      rw [e2] at h
      refine br_t (by rw [nI_clamp c31]; exact h2) ?_
      exact nm_r (nI_1 i) h
    refine br_f (by rw [nI_clamp c31]; exact h2) (And.intro hv (And.intro hv ?_))
    refine nm_r (e' := upd (zd_ac L D i).2.1 i ((zd_ac L D i).2.1 i + 1)) (by rw [nI_clamp c31]) ?_
    refine And.intro hv ?_
    by_cases h3 : (zd_ac L D i).2.1 i + 1 = nI L
    · have e2 : zd_ac L D (i + 1) = ((zd_ac L D i).1, upd (zd_ac L D i).2.1 i ((zd_ac L D i).2.1 i + 1), upd (zd_ac L D i).2.2 i 0) := (if_neg h1).trans ((if_neg h2).trans (if_pos h3))
      rw [e2] at h
      refine zb_t c31 (pk_us.trans h3) (And.intro hv ?_)
      refine nm_r (zp_up c31) ?_
      exact nm_r (nI_1 i) h
    · have e2 : zd_ac L D (i + 1) = ((zd_ac L D i).1, upd (zd_ac L D i).2.1 i ((zd_ac L D i).2.1 i + 1), (zd_ac L D i).2.2) := (if_neg h1).trans ((if_neg h2).trans (if_neg h3))
      rw [e2] at h
      refine zb_f c31 (fun z => h3 (pk_us.symm.trans z)) ?_
      exact nm_r (nI_1 i) h
theorem zx_ageP {post : SX → Prop} (hs : s ≤ 16) (hp : post (nI n, nI l, nI L, nI s, D.1, D.2.1, D.2.2, up, fl, co, us, sd, rc, og, ps, (zd_ap L us pa pb s).1, (zd_ap L us pa pb s).2, rm, ds, se)) : wpX_agePackets post (nI n, nI l, nI L, nI s, D.1, D.2.1, D.2.2, up, fl, co, us, sd, rc, og, ps, pa, pb, rm, ds, se) := by
  refine zp_l0 (fun m i => wX_agePackets_2 post (nI n) (nI l) (nI L) (nI s) m (nI i) D.1 D.2.1 D.2.2 up fl co us sd rc og ps ((zd_ap L us pa pb i).1) ((zd_ap L us pa pb i).2) rm ds se) s ?_ ?_
  · intro m
    exact br_t (nI_le (Nat.le_refl s) (by omega)) hp
  · intro m i hi h
    have hv : vp_in (nI i) 16 := vp_in_nI (by omega) (by omega)
    have c31 : i < 2 ^ 31 := by omega
    refine br_f (nI_ge hi (by omega)) (And.intro hv ?_)
    by_cases h1 : us i = 0
    · have e2 : zd_ap L us pa pb (i + 1) = zd_ap L us pa pb i := if_pos h1
      rw [e2] at h
      exact zb_t c31 h1 (nm_r (nI_1 i) h)
    refine zb_f c31 h1 (And.intro hv ?_)
    by_cases h2 : nI L ≤ (zd_ap L us pa pb i).1 i
    · have e2 : zd_ap L us pa pb (i + 1) = zd_ap L us pa pb i := (if_neg h1).trans (if_pos h2)
      rw [e2] at h
      refine br_t (by rw [nI_clamp c31]; exact h2) ?_
      exact nm_r (nI_1 i) h
    refine br_f (by rw [nI_clamp c31]; exact h2) (And.intro hv (And.intro hv ?_))
    refine nm_r (e' := upd (zd_ap L us pa pb i).1 i ((zd_ap L us pa pb i).1 i + 1)) (by rw [nI_clamp c31]) ?_
    refine And.intro hv ?_
    by_cases h3 : (zd_ap L us pa pb i).1 i + 1 = nI L
    · have e2 : zd_ap L us pa pb (i + 1) = (upd (zd_ap L us pa pb i).1 i ((zd_ap L us pa pb i).1 i + 1), upd (zd_ap L us pa pb i).2 i 0) := (if_neg h1).trans ((if_neg h2).trans (if_pos h3))
      rw [e2] at h
      refine zb_t c31 (pk_us.trans h3) (And.intro hv ?_)
      refine nm_r (zp_up c31) ?_
      exact nm_r (nI_1 i) h
    · have e2 : zd_ap L us pa pb (i + 1) = (upd (zd_ap L us pa pb i).1 i ((zd_ap L us pa pb i).1 i + 1), (zd_ap L us pa pb i).2) := (if_neg h1).trans ((if_neg h2).trans (if_neg h3))
      rw [e2] at h
      refine zb_f c31 (fun z => h3 (pk_us.symm.trans z)) ?_
      exact nm_r (nI_1 i) h
theorem zx_refresh {post : SX → Prop} (hn : n ≤ 8) (hp : post (nI n, nI l, nI L, nI s, (zd_rf n l L fl co D n).1, (zd_rf n l L fl co D n).2.1, (zd_rf n l L fl co D n).2.2, up, fl, co, us, sd, rc, og, ps, pa, pb, rm, ds, se)) : wpX_refresh post (nI n, nI l, nI L, nI s, D.1, D.2.1, D.2.2, up, fl, co, us, sd, rc, og, ps, pa, pb, rm, ds, se) := by
  refine zp_l0 (fun m i => wX_refresh_2 post m (nI i) (nI n) (nI l) (nI L) (nI s) ((zd_rf n l L fl co D i).1) ((zd_rf n l L fl co D i).2.1) ((zd_rf n l L fl co D i).2.2) up fl co us sd rc og ps pa pb rm ds se) n ?_ ?_
  · intro m
    exact br_t (nI_le (Nat.le_refl n) (by omega)) hp
  · intro m i hi h
    refine br_f (nI_ge hi (by omega)) ?_
    refine zx_cell i i ?_
    have hv : vp_in (nI (i * 8 + i)) 64 := vp_in_nI (by omega) (by omega)
    have c31 : i * 8 + i < 2 ^ 31 := by omega
    generalize hD : zd_rf n l L fl co D i = E at *
    have yes : zd_rn L E i = true → wX_refresh_59 post (wX_refresh_2 post m) (nI i) (nI n) (nI l) (nI L) (nI s) E.1 E.2.1 E.2.2 up fl co us sd rc og ps pa pb rm ds se := by
      intro e
      have e2 : zd_rf n l L fl co D (i + 1) = zd_og n l L fl co (zd_rf n l L fl co D i) i := if_pos (by rw [hD]; exact e)
      rw [e2, hD] at h
      unfold wX_refresh_59
      refine zx_orig hn (by omega) ?_
      exact nm_r (nI_1 i) h
    have no : zd_rn L E i = false → wX_refresh_2 post m (nI (i + 1)) (nI n) (nI l) (nI L) (nI s) E.1 E.2.1 E.2.2 up fl co us sd rc og ps pa pb rm ds se := by
      intro e
      have e2 : zd_rf n l L fl co D (i + 1) = zd_rf n l L fl co D i := if_neg (by rw [hD, e]; decide)
      rw [e2, hD] at h
      exact h
    refine zx_isPurged (by omega) ?_
    unfold zd_rn at yes no
    by_cases h1 : E.1 (i * 8 + i) = 0
    · rw [decide_eq_false (fun z => z.1 h1)]
      refine zb_b0 rfl ?_
      have y := yes (by rw [decide_eq_true h1]; rfl)
      refine And.intro hv (And.intro (by decide) ?_)
      exact br_c (fun _ => And.intro hv (zb_t c31 h1 y)) (fun _ => And.intro hv (zb_t c31 h1 y))
    · rw [decide_eq_false h1, Bool.false_or] at yes no
      by_cases h2 : E.2.1 (i * 8 + i) = nI L
      · rw [decide_eq_true ⟨h1, h2⟩]
        refine zb_b1 rfl ?_
        have y := no (by rw [decide_eq_false (fun z => z h2)]; rfl)
        exact And.intro hv (zb_f c31 h1 (br_t rfl (nm_r (nI_1 i) y)))
      · rw [decide_eq_false (fun z => h2 z.2)]
        refine zb_b0 rfl ?_
        rw [decide_eq_true h2, Bool.true_and] at yes no
        refine And.intro hv (And.intro (by decide) ?_)
        rw [nI_clamp c31]
        by_cases h3 : E.2.1 (i * 8 + i) < nI L / 2
        · have y := no (by rw [decide_eq_false (fun z => z h3)])
          exact br_t h3 (And.intro hv (zb_f c31 h1 (br_t rfl (nm_r (nI_1 i) y))))
        · have y := yes (by rw [decide_eq_true h3])
          exact br_f h3 (And.intro hv (zb_f c31 h1 (br_f zp_10 y)))
theorem zx_tick {post : Int32 → SX → Prop} {c : Nat → Bool} (hn : n ≤ 8) (hs : s ≤ 16) (hc : ∀ h, h < 64 → (zd_mk n (zd_rc n L up fl D) rm (n * 8) h = 0 ↔ c h = false))
    (hp : post (nI (zd_rv c D 64).2) (nI n, nI l, nI L, nI s, (zd_rf n l L fl co (zd_ac L (zd_rv c D 64).1 64) n).1, (zd_rf n l L fl co (zd_ac L (zd_rv c D 64).1 64) n).2.1, (zd_rf n l L fl co (zd_ac L (zd_rv c D 64).1 64) n).2.2, up, fl, co, us, sd, rc, og, ps, (zd_ap L us pa pb s).1, (zd_ap L us pa pb s).2, zd_mk n (zd_rc n L up fl D) rm (n * 8), ds, se)) : wpX_tick post (nI n, nI l, nI L, nI s, D.1, D.2.1, D.2.2, up, fl, co, us, sd, rc, og, ps, pa, pb, rm, ds, se) := by
  unfold wpX_tick
  refine zx_mark hn ?_
  refine zx_remove hc ?_
  refine zx_ageC ?_
  refine zx_ageP hs ?_
  refine zx_refresh hn ?_
  exact hp
end
end
section
/- the links' invariant; the reference's loops -/
def zd_sy (f : Nat → Int32) : Prop := ∀ a b, a < 8 → b < 8 → f (a * 8 + b) = f (b * 8 + a)
def zd_lk (up fl : Nat → Int32) : Prop := (∀ i, ¬ fl i = 0 → ¬ up i = 0) ∧ zd_sy up ∧ zd_sy fl
theorem zp_u2 {f : Nat → Int32} {i j k : Nat} {v : Int32} : upd (upd f i v) j v k = if k = j ∨ k = i then v else f k := by
  unfold upd
  by_cases h : k = j
  · rw [if_pos h, if_pos (Or.inl h)]
  · rw [if_neg h]
    by_cases h2 : k = i
    · rw [if_pos h2, if_pos (Or.inr h2)]
    · rw [if_neg h2, if_neg (fun z => z.elim h h2)]
theorem zp_sy2 {f : Nat → Int32} {a b : Nat} {v : Int32} (hf : zd_sy f) (ha : a < 8) (hb : b < 8) : zd_sy (upd (upd f (a * 8 + b) v) (b * 8 + a) v) := by
  intro c d hc hd
  rw [zp_u2, zp_u2]
  by_cases h : c * 8 + d = b * 8 + a ∨ c * 8 + d = a * 8 + b
  · rw [if_pos h, if_pos (by omega)]
  · rw [if_neg h, if_neg (by omega)]; exact hf c d hc hd
theorem zp_sf_cut {up fl : Nat → Int32} {i j : Nat} : upd (upd (zd_sf up fl) i 0) j 0 = zd_sf (upd (upd up i 0) j 0) (upd (upd fl i 0) j 0) := by
  funext k
  rw [zp_u2]
  unfold zd_sf
  rw [zp_u2, zp_u2]
  by_cases h : k = j ∨ k = i
  · rw [if_pos h, if_pos h, if_pos rfl]
  · rw [if_neg h, if_neg h, if_neg h]
theorem zp_sf_up {up fl : Nat → Int32} {i j : Nat} (hi : fl i = 0) (hj : fl j = 0) : upd (upd (zd_sf up fl) i 1) j 1 = zd_sf (upd (upd up i 1) j 1) fl := by
  funext k
  rw [zp_u2]
  unfold zd_sf
  rw [zp_u2]
  by_cases h : k = j ∨ k = i
  · rw [if_pos h, if_pos h, if_neg zp_10, if_pos]
    rcases h with h | h <;> rw [h] <;> assumption
  · rw [if_neg h, if_neg h]
theorem zp_sf_ro {up fl : Nat → Int32} {i j : Nat} (hi : ¬ up i = 0) (hj : ¬ up j = 0) : upd (upd (zd_sf up fl) i 1) j 1 = zd_sf up (upd (upd fl i 0) j 0) := by
  funext k
  rw [zp_u2]
  unfold zd_sf
  rw [zp_u2]
  by_cases h : k = j ∨ k = i
  · rw [if_pos h, if_pos h, if_neg, if_pos rfl]
    rcases h with h | h <;> rw [h] <;> assumption
  · rw [if_neg h, if_neg h]
theorem zp_sf_fu {up fl : Nat → Int32} {i j : Nat} (hi : ¬ up i = 0) (hj : ¬ up j = 0) : upd (upd (zd_sf up fl) i 2) j 2 = zd_sf up (upd (upd fl i 1) j 1) := by
  funext k
  rw [zp_u2]
  unfold zd_sf
  rw [zp_u2]
  by_cases h : k = j ∨ k = i
  · rw [if_pos h, if_pos h, if_neg, if_neg zp_10]
    rcases h with h | h <;> rw [h] <;> assumption
  · rw [if_neg h, if_neg h]
theorem zp_lk_cut {up fl : Nat → Int32} {a b : Nat} (h : zd_lk up fl) (ha : a < 8) (hb : b < 8) : zd_lk (upd (upd up (a * 8 + b) 0) (b * 8 + a) 0) (upd (upd fl (a * 8 + b) 0) (b * 8 + a) 0) := by
  refine ⟨fun i => ?_, zp_sy2 h.2.1 ha hb, zp_sy2 h.2.2 ha hb⟩
  rw [zp_u2, zp_u2]
  by_cases g : i = b * 8 + a ∨ i = a * 8 + b
  · rw [if_pos g, if_pos g]; exact fun z => z
  · rw [if_neg g, if_neg g]; exact h.1 i
theorem zp_lk_up {up fl : Nat → Int32} {a b : Nat} (h : zd_lk up fl) (ha : a < 8) (hb : b < 8) : zd_lk (upd (upd up (a * 8 + b) 1) (b * 8 + a) 1) fl := by
  refine ⟨fun i hi => ?_, zp_sy2 h.2.1 ha hb, h.2.2⟩
  rw [zp_u2]
  by_cases g : i = b * 8 + a ∨ i = a * 8 + b
  · rw [if_pos g]; exact zp_10
  · rw [if_neg g]; exact h.1 i hi
theorem zp_lk_ro {up fl : Nat → Int32} {a b : Nat} (h : zd_lk up fl) (ha : a < 8) (hb : b < 8) : zd_lk up (upd (upd fl (a * 8 + b) 0) (b * 8 + a) 0) := by
  refine ⟨fun i => ?_, h.2.1, zp_sy2 h.2.2 ha hb⟩
  rw [zp_u2]
  by_cases g : i = b * 8 + a ∨ i = a * 8 + b
  · rw [if_pos g]; exact fun z => absurd rfl z
  · rw [if_neg g]; exact h.1 i
theorem zp_lk_fu {up fl : Nat → Int32} {a b : Nat} (h : zd_lk up fl) (ha : a < 8) (hb : b < 8) (hu : ¬ up (a * 8 + b) = 0) : zd_lk up (upd (upd fl (a * 8 + b) 1) (b * 8 + a) 1) := by
  refine ⟨fun i => ?_, h.2.1, zp_sy2 h.2.2 ha hb⟩
  rw [zp_u2]
  by_cases g : i = b * 8 + a ∨ i = a * 8 + b
  · intro _
    rcases g with g | g
    · rw [g, ← h.2.1 a b ha hb]; exact hu
    · rw [g]; exact hu
  · rw [if_neg g]; exact h.1 i
theorem zp_ro_lk {up fl : Nat → Int32} {r : Nat} (h : zd_lk up fl) (hr : r < 8) : ∀ k, k ≤ 8 → zd_lk up (zd_ro fl r k).1 := by
  intro k
  induction k with
  | zero => intro _; exact h
  | succ k ih =>
    intro hk
    by_cases e : (zd_ro fl r k).1 (r * 8 + k) = 0
    · have e2 : zd_ro fl r (k + 1) = zd_ro fl r k := if_pos e
      rw [e2]; exact ih (by omega)
    · have e2 : zd_ro fl r (k + 1) = (upd (upd (zd_ro fl r k).1 (r * 8 + k) 0) (k * 8 + r) 0, (zd_ro fl r k).2 ||| ((1 : Int32) <<< (nI k &&& 31))) := if_neg e
      rw [e2]; exact zp_lk_ro (ih (by omega)) hr (by omega)
theorem zp_ro_bit {fl : Nat → Int32} {r : Nat} : ∀ k, k ≤ 8 → ∀ j, j < 32 → bt (zd_ro fl r k).2 j = (decide (j < k) && decide (¬ (zd_ro fl r j).1 (r * 8 + j) = 0)) := by
  intro k
  induction k with
  | zero => intro _ j hj; show bt 0 j = _; rw [b_0, decide_eq_false (by omega), Bool.false_and]
  | succ k ih =>
    intro hk j hj
    have h := ih (by omega) j hj
    by_cases e : (zd_ro fl r k).1 (r * 8 + k) = 0
    · have e2 : zd_ro fl r (k + 1) = zd_ro fl r k := if_pos e
      rw [e2, h]
      by_cases hjk : j = k
      · subst hjk; rw [decide_eq_false (p := ¬ (zd_ro fl r j).1 (r * 8 + j) = 0) (fun z => z e), Bool.and_false, Bool.and_false]
      · rw [show decide (j < k + 1) = decide (j < k) from decide_eq_decide.mpr (by omega)]
    · have e2 : zd_ro fl r (k + 1) = (upd (upd (zd_ro fl r k).1 (r * 8 + k) 0) (k * 8 + r) 0, (zd_ro fl r k).2 ||| ((1 : Int32) <<< (nI k &&& 31))) := if_neg e
      rw [e2]
      show bt ((zd_ro fl r k).2 ||| ((1 : Int32) <<< (nI k &&& 31))) j = _
      rw [zp_orbit (by omega) hj, h]
      by_cases hjk : j = k
      · subst hjk; rw [decide_eq_true (p := ¬ (zd_ro fl r j).1 (r * 8 + j) = 0) e]; simp
      · rw [show decide (j < k + 1) = decide (j < k) from decide_eq_decide.mpr (by omega), decide_eq_false hjk, Bool.or_false]
/-- the reference's marks of the links reopened -/
def zd_ym (fl : Nat → Int32) (r : Nat) (mk : Nat → Int32) : Nat → Nat → Int32
  | 0 => mk
  | k + 1 => upd (zd_ym fl r mk k) k (zd_b (decide (¬ (zd_ro fl r k).1 (r * 8 + k) = 0)))
theorem zp_ym {fl mk : Nat → Int32} {r : Nat} : ∀ k j, j < k → zd_ym fl r mk k j = zd_b (decide (¬ (zd_ro fl r j).1 (r * 8 + j) = 0)) := by
  intro k
  induction k with
  | zero => intro j hj; omega
  | succ k ih =>
    intro j hj
    by_cases e : j = k
    · rw [e]; exact pk_us
    · exact (pk_un e).trans (ih j (by omega))
theorem zp_ow (c : Nat → Bool) : ∀ i, i ≤ 8 → ∃ m, m < 2 ^ i ∧ zd_ow c i = nI m := by
  intro i
  induction i with
  | zero => intro _; exact ⟨0, by decide, by rw [nI_0]; rfl⟩
  | succ i ih =>
    intro hi
    obtain ⟨m, hm, e⟩ := ih (by omega)
    have h2 : 2 ^ (i + 1) = 2 ^ i * 2 := Nat.pow_succ 2 i
    by_cases h : c i = true
    · refine ⟨m + 2 ^ i, by omega, ?_⟩
      have e2 : zd_ow c (i + 1) = zd_ow c i ||| ((1 : Int32) <<< (nI i &&& 31)) := if_pos h
      rw [e2, e]
      exact (zp_or i (by omega) m hm).1
    · refine ⟨m, by omega, ?_⟩
      have e2 : zd_ow c (i + 1) = zd_ow c i := if_neg h
      rw [e2, e]
theorem zp_ow1 (c : Nat → Bool) {i : Nat} (hi : i < 8) (h : c i = true) : zd_ow c i + ((1 : Int32) <<< (nI i &&& 31)) = zd_ow c (i + 1) := by
  obtain ⟨m, hm, e⟩ := zp_ow c i (by omega)
  have e2 : zd_ow c (i + 1) = zd_ow c i ||| ((1 : Int32) <<< (nI i &&& 31)) := if_pos h
  rw [e2, e, (zp_or i hi m hm).1, (zp_or i hi m hm).2]
section
variable {n l L s : Nat} {D : zd_DB} {up fl co us sd rc og ps pa pb mk cm wk : Nat → Int32}
theorem zy_rpb {post : Int32 → SY → Prop} {a b z : Int32} (hs : s ≤ 16)
    (hp : (z = 0 → post 1 (nI n, nI l, nI L, nI s, zd_sf up fl, co, D.1, D.2.1, D.2.2, zd_fr (fun i => (decide (sd i = a) && decide (rc i = b)) || (decide (sd i = b) && decide (rc i = a))) us s, zd_pk sd rc og ps pa pb, mk, cm, wk)) ∧ (¬ z = 0 → wpY_originate (fun u => wpY_originate (fun u => post 1 u) u b) (nI n, nI l, nI L, nI s, zd_sf up fl, co, D.1, D.2.1, D.2.2, zd_fr (fun i => (decide (sd i = a) && decide (rc i = b)) || (decide (sd i = b) && decide (rc i = a))) us s, zd_pk sd rc og ps pa pb, mk, cm, wk) a)) :
    ∃ m, wY_cut_56 post a b z (nI n) (nI l) (nI L) (nI s) m 0 (zd_sf up fl) co D.1 D.2.1 D.2.2 us (zd_pk sd rc og ps pa pb) mk cm wk := by
  refine zp_l0 (fun m i => wY_cut_56 post a b z (nI n) (nI l) (nI L) (nI s) m (nI i) (zd_sf up fl) co D.1 D.2.1 D.2.2 (zd_fr (fun i => (decide (sd i = a) && decide (rc i = b)) || (decide (sd i = b) && decide (rc i = a))) us i) (zd_pk sd rc og ps pa pb) mk cm wk) s ?_ ?_
  · intro m
    exact br_t (nI_le (Nat.le_refl s) (by omega)) hp
  · intro m i hi h
    have hv : vp_in (nI i) 16 := vp_in_nI (by omega) (by omega)
    have c31 : i < 2 ^ 31 := by omega
    refine br_f (nI_ge hi (by omega)) ?_
    rw [zp_64, zp_65]
    refine And.intro (vp_in_nI (by omega) (by omega)) ?_
    refine nm_r ((zp_rd (by omega)).trans (zp_pk4 i)) ?_
    refine And.intro (vp_in_nI (by omega) (by omega)) ?_
    refine nm_r ((zp_rd (by omega)).trans (zp_pk5 i)) ?_
    generalize hc : (fun i => (decide (sd i = a) && decide (rc i = b)) || (decide (sd i = b) && decide (rc i = a))) = c at h ⊢
    have hci : c i = ((decide (sd i = a) && decide (rc i = b)) || (decide (sd i = b) && decide (rc i = a))) := by rw [← hc]
    have yes : c i = true → wY_cut_56 post a b z (nI n) (nI l) (nI L) (nI s) m (nI (i + 1)) (zd_sf up fl) co D.1 D.2.1 D.2.2 (upd (zd_fr c us i) i 0) (zd_pk sd rc og ps pa pb) mk cm wk := fun e => by
      have e2 : zd_fr c us (i + 1) = upd (zd_fr c us i) i 0 := if_pos e
      rw [← e2]; exact h
    have no : c i = false → wY_cut_56 post a b z (nI n) (nI l) (nI L) (nI s) m (nI (i + 1)) (zd_sf up fl) co D.1 D.2.1 D.2.2 (zd_fr c us i) (zd_pk sd rc og ps pa pb) mk cm wk := fun e => by
      have e2 : zd_fr c us (i + 1) = zd_fr c us i := if_neg (by rw [e]; decide)
      rw [← e2]; exact h
    have back : (decide (sd i = a) && decide (rc i = b)) = false → wY_cut_105 post (wY_cut_56 post a b z (nI n) (nI l) (nI L) (nI s) m) a b z (nI i) (sd i) (rc i) (nI n) (nI l) (nI L) (nI s) (zd_sf up fl) co D.1 D.2.1 D.2.2 (zd_fr c us i) (zd_pk sd rc og ps pa pb) mk cm wk := fun e => by
      rw [e, Bool.false_or] at hci
      by_cases h1 : sd i = b
      · refine br_t h1 ?_
        by_cases h2 : rc i = a
        · refine br_t h2 (And.intro hv ?_)
          refine nm_r (zp_un c31 zp_n0) ?_
          exact nm_r (nI_1 i) (yes (by rw [hci, decide_eq_true h1, decide_eq_true h2]; rfl))
        · exact br_f h2 (nm_r (nI_1 i) (no (by rw [hci, decide_eq_false h2, Bool.and_false])))
      · exact br_f h1 (nm_r (nI_1 i) (no (by rw [hci, decide_eq_false h1, Bool.false_and])))
    by_cases h1 : sd i = a
    · refine br_t h1 ?_
      by_cases h2 : rc i = b
      · refine br_t h2 (And.intro hv ?_)
        refine nm_r (zp_un c31 zp_n0) ?_
        exact nm_r (nI_1 i) (yes (by rw [hci, decide_eq_true h1, decide_eq_true h2]; rfl))
      · exact br_f h2 (back (by rw [decide_eq_false h2, Bool.and_false]))
    · exact br_f h1 (back (by rw [decide_eq_false h1, Bool.false_and]))
theorem zy_oaR {post : Int32 → SY → Prop} {c : Nat → Bool} (hl : zd_lk up fl) (hn : n ≤ 8) (hc : ∀ i, i < n → mk i = zd_b (c i)) (hp : post 1 (nI n, nI l, nI L, nI s, zd_sf up fl, co, (zd_oa n l L fl co c D n).1, (zd_oa n l L fl co c D n).2.1, (zd_oa n l L fl co c D n).2.2, us, zd_pk sd rc og ps pa pb, mk, cm, wk)) : ∃ m, wY_restart_137 post m 0 (nI n) (nI l) (nI L) (nI s) (zd_sf up fl) co D.1 D.2.1 D.2.2 us (zd_pk sd rc og ps pa pb) mk cm wk := by
  refine zp_l0 (fun m i => wY_restart_137 post m (nI i) (nI n) (nI l) (nI L) (nI s) (zd_sf up fl) co ((zd_oa n l L fl co c D i).1) ((zd_oa n l L fl co c D i).2.1) ((zd_oa n l L fl co c D i).2.2) us (zd_pk sd rc og ps pa pb) mk cm wk) n ?_ ?_
  · intro m
    exact br_t (nI_le (Nat.le_refl n) (by omega)) hp
  · intro m i hi h
    refine br_f (nI_ge hi (by omega)) (And.intro (vp_in_nI (by omega) (by omega)) ?_)
    by_cases e : c i = true
    · refine zb_f (by omega) (fun z => absurd ((hc i hi).symm.trans z) (by rw [e]; decide)) ?_
      have e2 : zd_oa n l L fl co c D (i + 1) = zd_og n l L fl co (zd_oa n l L fl co c D i) i := if_pos e
      rw [e2] at h
      refine zy_orig hl.1 hn (by omega) ?_
      exact nm_r (nI_1 i) h
    · refine zb_t (by omega) ((hc i hi).trans (zp_b0.mpr (zp_nf e))) ?_
      have e2 : zd_oa n l L fl co c D (i + 1) = zd_oa n l L fl co c D i := if_neg e
      rw [e2] at h
      exact nm_r (nI_1 i) h
theorem zy_restart {post : Int32 → SY → Prop} {r : Nat} (hl : zd_lk up fl) (hn : n ≤ 8) (hs : s ≤ 16) (hr : r < n)
    (hp : post 1 (nI n, nI l, nI L, nI s, zd_sf up ((zd_ro fl r n).1), co, (zd_oa n l L (zd_ro fl r n).1 co (fun j => decide (¬ (zd_ro fl r j).1 (r * 8 + j) = 0)) (zd_og n l L (zd_ro fl r n).1 co (zd_cr D r n) r) n).1, (zd_oa n l L (zd_ro fl r n).1 co (fun j => decide (¬ (zd_ro fl r j).1 (r * 8 + j) = 0)) (zd_og n l L (zd_ro fl r n).1 co (zd_cr D r n) r) n).2.1, (zd_oa n l L (zd_ro fl r n).1 co (fun j => decide (¬ (zd_ro fl r j).1 (r * 8 + j) = 0)) (zd_og n l L (zd_ro fl r n).1 co (zd_cr D r n) r) n).2.2, zd_fr (fun i => decide (sd i = nI r) || decide (rc i = nI r)) us s, zd_pk sd rc og ps pa pb, zd_ym fl r mk n, cm, wk)) : wpY_restart post (nI n, nI l, nI L, nI s, zd_sf up fl, co, D.1, D.2.1, D.2.2, us, zd_pk sd rc og ps pa pb, mk, cm, wk) (nI r) := by
  unfold wpY_restart
  refine zy_bad0 hn hr ?_
  refine br_t rfl ?_
  refine zp_l0 (fun m i => wY_restart_12 post (nI r) (nI n) (nI l) (nI L) (nI s) m (nI i) (zd_sf up fl) co D.1 D.2.1 D.2.2 (zd_fr (fun i => decide (sd i = nI r) || decide (rc i = nI r)) us i) (zd_pk sd rc og ps pa pb) mk cm wk) s ?_ ?_
  · intro m
    refine br_t (nI_le (Nat.le_refl s) (by omega)) ?_
    generalize zd_fr (fun i => decide (sd i = nI r) || decide (rc i = nI r)) us s = us' at *
    refine zp_l0 (fun m i => wY_restart_65 post (nI r) m (nI i) (nI n) (nI l) (nI L) (nI s) (zd_sf up ((zd_ro fl r i).1)) co ((zd_cr D r i).1) ((zd_cr D r i).2.1) ((zd_cr D r i).2.2) us' (zd_pk sd rc og ps pa pb) (zd_ym fl r mk i) cm wk) n ?_ ?_
    · intro m
      refine br_t (nI_le (Nat.le_refl n) (by omega)) ?_
      refine zy_orig (zp_ro_lk hl (by omega) n hn).1 hn (by omega) ?_
      refine zy_oaR (zp_ro_lk hl (by omega) n hn) hn (fun i hi => zp_ym n i hi) ?_
      exact hp
    · intro m i hi h
      have hv : vp_in (nI i) 64 := vp_in_nI (by omega) (by omega)
      have c31 : i < 2 ^ 31 := by omega
      refine br_f (nI_ge hi (by omega)) ?_
      rw [zp_cell]
      refine And.intro (vp_in_nI (by omega) (by omega)) ?_
      have hk := zp_ro_lk hl (show r < 8 by omega) i (by omega)
      have em : ∀ w, zd_ym fl r mk (i + 1) = w → upd (zd_ym fl r mk i) i (zd_b (decide (¬ (zd_ro fl r i).1 (r * 8 + i) = 0))) = w := fun w e => e
      by_cases e : (zd_ro fl r i).1 (r * 8 + i) = 0
      · refine zb_f (by omega) (fun z => (zp_sf2.mp z).2 e) ?_
        have em2 : upd (zd_ym fl r mk i) i 0 = zd_ym fl r mk (i + 1) := by
          rw [← em _ rfl, decide_eq_false (fun z => z e)]; rfl
        refine And.intro hv ?_
        refine nm_r ((zp_un c31 zp_n0).trans em2) ?_
        refine And.intro hv ?_
        refine zb_t c31 ((zp_ym (i + 1) i (by omega)).trans (by rw [decide_eq_false (fun z => z e)]; rfl)) ?_
        unfold wY_restart_115
        refine zy_store (by omega) (by omega) ?_
        have e2 : zd_ro fl r (i + 1) = zd_ro fl r i := if_pos e
        rw [e2] at h
        exact nm_r (nI_1 i) h
      · refine zb_t (by omega) (zp_sf2.mpr ⟨hk.1 _ e, e⟩) ?_
        have em2 : upd (zd_ym fl r mk i) i 1 = zd_ym fl r mk (i + 1) := by
          rw [← em _ rfl, decide_eq_true e]; rfl
        refine And.intro hv ?_
        refine nm_r ((zp_un c31 zp_n1).trans em2) ?_
        refine And.intro hv ?_
        refine zb_f c31 (fun z => zp_10 ((((zp_ym (i + 1) i (by omega)).trans (by rw [decide_eq_true e]; rfl)).symm.trans z))) ?_
        refine zy_setLink (by omega) (by omega) ?_
        have u1 := hk.1 _ e
        rw [zp_sf_ro u1 (by rw [← hl.2.1 r i (by omega) (by omega)]; exact u1)]
        unfold wY_restart_115
        refine zy_store (by omega) (by omega) ?_
        have e2 : zd_ro fl r (i + 1) = (upd (upd (zd_ro fl r i).1 (r * 8 + i) 0) (i * 8 + r) 0, (zd_ro fl r i).2 ||| ((1 : Int32) <<< (nI i &&& 31))) := if_neg e
        rw [e2] at h
        exact nm_r (nI_1 i) h
  · intro m i hi h
    have hv : vp_in (nI i) 16 := vp_in_nI (by omega) (by omega)
    have c31 : i < 2 ^ 31 := by omega
    refine br_f (nI_ge hi (by omega)) ?_
    rw [zp_64, zp_65]
    refine And.intro (vp_in_nI (by omega) (by omega)) ?_
    generalize hc : (fun i => decide (sd i = nI r) || decide (rc i = nI r)) = c at h ⊢
    have hci : c i = (decide (sd i = nI r) || decide (rc i = nI r)) := by rw [← hc]
    by_cases h1 : sd i = nI r
    · refine zb_t (by omega) ((zp_pk4 i).trans h1) (And.intro hv ?_)
      refine nm_r (zp_un c31 zp_n0) ?_
      refine nm_r (nI_1 i) ?_
      have e2 : zd_fr c us (i + 1) = upd (zd_fr c us i) i 0 := if_pos (by rw [hci, decide_eq_true h1]; rfl)
      rw [← e2]; exact h
    · refine zb_f (by omega) (fun z => h1 ((zp_pk4 i).symm.trans z)) (And.intro (vp_in_nI (by omega) (by omega)) ?_)
      by_cases h2 : rc i = nI r
      · refine zb_t (by omega) ((zp_pk5 i).trans h2) (And.intro hv ?_)
        refine nm_r (zp_un c31 zp_n0) ?_
        refine nm_r (nI_1 i) ?_
        have e2 : zd_fr c us (i + 1) = upd (zd_fr c us i) i 0 := if_pos (by rw [hci, decide_eq_true h2, Bool.or_true])
        rw [← e2]; exact h
      · refine zb_f (by omega) (fun z => h2 ((zp_pk5 i).symm.trans z)) ?_
        refine nm_r (nI_1 i) ?_
        have e2 : zd_fr c us (i + 1) = zd_fr c us i := if_neg (by rw [hci, decide_eq_false h1, decide_eq_false h2]; decide)
        rw [← e2]; exact h
theorem zy_owed {post : Int32 → Prop} {a b : Nat} (hn : n ≤ 8) (ha : a < n) (hb : b < n) (hab : a ≠ b) (hu : ¬ up (a * 8 + b) = 0)
    (hp : post (zd_ow (fun o => zd_nw (nI L) (D.1 (a * 8 + o)) (D.2.1 (a * 8 + o)) (D.2.2 (a * 8 + o)) (D.1 (b * 8 + o)) (D.2.1 (b * 8 + o)) (D.2.2 (b * 8 + o))) n)) : wpY_owed post (nI n, nI l, nI L, nI s, zd_sf up fl, co, D.1, D.2.1, D.2.2, us, zd_pk sd rc og ps pa pb, mk, cm, wk) (nI a) (nI b) := by
  unfold wpY_owed
  refine zy_bp0 hn ha hb hab ?_
  refine br_t rfl ?_
  rw [zp_cell]
  refine And.intro (vp_in_nI (by omega) (by omega)) ?_
  refine zb_f (by omega) (fun z => hu (zp_sf0.mp z)) ?_
  revert hp
  generalize hc : (fun o => zd_nw (nI L) (D.1 (a * 8 + o)) (D.2.1 (a * 8 + o)) (D.2.2 (a * 8 + o)) (D.1 (b * 8 + o)) (D.2.1 (b * 8 + o)) (D.2.2 (b * 8 + o))) = c
  intro hp
  refine zp_l0 (fun m i => wY_owed_30 post (nI a) (nI b) (nI n) (nI l) (nI L) (nI s) (zd_sf up fl) co D.1 D.2.1 D.2.2 us (zd_pk sd rc og ps pa pb) mk cm wk m (zd_ow c i) (nI i)) n ?_ ?_
  · intro m
    exact br_t (nI_le (Nat.le_refl n) (by omega)) hp
  · intro m i hi h
    refine br_f (nI_ge hi (by omega)) ?_
    refine zy_beats (by omega) (by omega) (by omega) ?_
    have hci : c i = zd_nw (nI L) (D.1 (a * 8 + i)) (D.2.1 (a * 8 + i)) (D.2.2 (a * 8 + i)) (D.1 (b * 8 + i)) (D.2.1 (b * 8 + i)) (D.2.2 (b * 8 + i)) := by rw [← hc]
    rw [← hci]
    refine zb_b (fun e => ?_) (fun e => ?_)
    · refine nm_r (nI_1 i) ?_
      have e2 : zd_ow c (i + 1) = zd_ow c i := if_neg (by rw [e]; decide)
      rw [← e2]; exact h
    · refine nm_r (zp_ow1 c (by omega) e) ?_
      exact nm_r (nI_1 i) h
theorem zy_owedn {post : Int32 → Prop} {v w : Int32} (hn : n ≤ 8) (hv : ¬ zd_pr n v w) (hp : post 0) : wpY_owed post (nI n, nI l, nI L, nI s, zd_sf up fl, co, D.1, D.2.1, D.2.2, us, zd_pk sd rc og ps pa pb, mk, cm, wk) v w := by
  unfold wpY_owed
  refine zy_bp1 hn hv ?_
  exact br_f zp_10 hp
theorem zy_owed0 {post : Int32 → Prop} {a b : Nat} (hn : n ≤ 8) (ha : a < n) (hb : b < n) (hab : a ≠ b) (hu : up (a * 8 + b) = 0) (hp : post 0) : wpY_owed post (nI n, nI l, nI L, nI s, zd_sf up fl, co, D.1, D.2.1, D.2.2, us, zd_pk sd rc og ps pa pb, mk, cm, wk) (nI a) (nI b) := by
  unfold wpY_owed
  refine zy_bp0 hn ha hb hab ?_
  refine br_t rfl ?_
  rw [zp_cell]
  refine And.intro (vp_in_nI (by omega) (by omega)) ?_
  exact zb_t (by omega) (zp_sf0.mpr hu) hp
end
section
variable {n l L s : Nat} {D : zd_DB} {up fl co us sd rc og ps pa pb rm ds se : Nat → Int32}
theorem zx_owedn {post : Int32 → Prop} {v w : Int32} (hn : n ≤ 8) (hv : ¬ zd_pr n v w) (hp : post 0) : wpX_owed post (nI n, nI l, nI L, nI s, D.1, D.2.1, D.2.2, up, fl, co, us, sd, rc, og, ps, pa, pb, rm, ds, se) v w := by
  unfold wpX_owed
  refine zx_lkn hn hv ?_
  exact br_t rfl hp
theorem zx_owed0 {post : Int32 → Prop} {a b : Nat} (hn : n ≤ 8) (ha : a < n) (hb : b < n) (hab : a ≠ b) (hu : up (a * 8 + b) = 0) (hp : post 0) : wpX_owed post (nI n, nI l, nI L, nI s, D.1, D.2.1, D.2.2, up, fl, co, us, sd, rc, og, ps, pa, pb, rm, ds, se) (nI a) (nI b) := by
  unfold wpX_owed
  refine zx_lk0 hn ha hb hab hu ?_
  exact br_t rfl hp
end
end
section
/- the reference's tick -/
theorem zp_rvs (c : Nat → Bool) (D : zd_DB) (i : Nat) : ∀ d, (∀ h, i ≤ h → h < i + d → c h = false) → zd_rv c D (i + d) = zd_rv c D i := by
  intro d
  induction d with
  | zero => intro _; rfl
  | succ d ih =>
    intro h
    have e : zd_rv c D (i + d + 1) = zd_rv c D (i + d) := if_neg (by rw [h (i + d) (by omega) (by omega)]; decide)
    rw [← Nat.add_assoc, e]
    exact ih (fun k h1 h2 => h k h1 (by omega))
theorem zp_ac1 (L : Nat) (D : zd_DB) : ∀ k, (zd_ac L D k).1 = D.1 := by
  intro k
  induction k with
  | zero => rfl
  | succ k ih =>
    unfold zd_ac
    by_cases h1 : (zd_ac L D k).1 k = 0
    · rw [if_pos h1]; exact ih
    · rw [if_neg h1]
      by_cases h2 : nI L ≤ (zd_ac L D k).2.1 k
      · rw [if_pos h2]; exact ih
      · rw [if_neg h2]
        by_cases h3 : (zd_ac L D k).2.1 k + 1 = nI L
        · rw [if_pos h3]; exact ih
        · rw [if_neg h3]; exact ih
theorem zp_le0 {x : Int32} (h : 0 ≤ x) : x ≤ 0 ↔ x = 0 := ⟨fun z => Int32.le_antisymm z h, fun z => by rw [z]; exact Int32.le_rfl⟩
section
variable {n l L s : Nat} {D : zd_DB} {up fl co us sd rc og ps pa pb mk cm wk : Nat → Int32}
theorem zy_removable {post : Int32 → Prop} {a o : Nat} (hn : n ≤ 8) (ha : a < 8) (ho : o < 8) (hp : post (zd_b (zd_rc n L up fl D (a * 8 + o)))) : wpY_removable post (nI n, nI l, nI L, nI s, zd_sf up fl, co, D.1, D.2.1, D.2.2, us, zd_pk sd rc og ps pa pb, mk, cm, wk) (nI a) (nI o) := by
  have hrc : zd_rc n L up fl D (a * 8 + o) = (decide (¬ D.1 (a * 8 + o) = 0 ∧ D.2.1 (a * 8 + o) = nI L) && !decide (zd_sr (zd_nc L up fl D a o) 0 n < n)) := by
    unfold zd_rc
    rw [show (a * 8 + o) / 8 = a by omega, show (a * 8 + o) % 8 = o by omega]
  rw [hrc] at hp
  unfold wpY_removable
  rw [zp_cell]
  have hv : vp_in (nI (a * 8 + o)) 64 := vp_in_nI (by omega) (by omega)
  have c31 : a * 8 + o < 2 ^ 31 := by omega
  refine And.intro hv ?_
  by_cases h1 : D.1 (a * 8 + o) = 0
  · rw [decide_eq_false (fun z => z.1 h1), Bool.false_and] at hp
    exact zb_t c31 h1 hp
  refine zb_f c31 h1 (And.intro hv ?_)
  by_cases h2 : D.2.1 (a * 8 + o) = nI L
  rotate_left
  · rw [decide_eq_false (fun z => h2 z.2), Bool.false_and] at hp
    exact zb_f c31 h2 hp
  refine zb_t c31 h2 ?_
  rw [decide_eq_true ⟨h1, h2⟩, Bool.true_and] at hp
  obtain ⟨g1, g2, g3⟩ := zp_sr0 (zd_nc L up fl D a o) n
  have cont : ∀ m i, i < n → zd_nc L up fl D a o i = false → wY_removable_36 post (nI a) (nI o) (nI n) (nI l) (nI L) (nI s) (zd_sf up fl) co D.1 D.2.1 D.2.2 us (zd_pk sd rc og ps pa pb) mk cm wk m (nI (i + 1)) → wY_removable_36 post (nI a) (nI o) (nI n) (nI l) (nI L) (nI s) (zd_sf up fl) co D.1 D.2.1 D.2.2 us (zd_pk sd rc og ps pa pb) mk cm wk (m + 1) (nI i) := by
    intro m i hi e h
    unfold zd_nc at e
    rw [Bool.or_eq_false_iff] at e
    have e1 := of_decide_eq_false e.1
    refine br_f (nI_ge hi (by omega)) ?_
    rw [zp_cell]
    have hw : vp_in (nI (a * 8 + i)) 64 := vp_in_nI (by omega) (by omega)
    refine And.intro hw ?_
    refine zb_f (by omega) (fun z => e1 (zp_sf1.mp z)) (And.intro hw ?_)
    by_cases hu : up (a * 8 + i) = 0
    · exact zb_f (by omega) (fun z => (zp_sf2.mp z).1 hu) (nm_r (nI_1 i) h)
    · have e2 := e.2
      rw [decide_eq_true hu, Bool.true_and] at e2
      refine zb_t (by omega) (zp_sf2.mpr ⟨hu, fun z => e1 ⟨hu, z⟩⟩) ?_
      refine zy_beats ha (by omega) ho ?_
      exact zb_b0 e2 (nm_r (nI_1 i) h)
  by_cases hq : zd_sr (zd_nc L up fl D a o) 0 n < n
  · rw [decide_eq_true hq] at hp
    refine zp_l0 (fun m i => wY_removable_36 post (nI a) (nI o) (nI n) (nI l) (nI L) (nI s) (zd_sf up fl) co D.1 D.2.1 D.2.2 us (zd_pk sd rc og ps pa pb) mk cm wk m (nI i)) (zd_sr (zd_nc L up fl D a o) 0 n) ?_ ?_
    · intro m
      have e := g3 hq
      generalize zd_sr (zd_nc L up fl D a o) 0 n = i at *
      unfold zd_nc at e
      refine br_f (nI_ge hq (by omega)) ?_
      rw [zp_cell]
      have hw : vp_in (nI (a * 8 + i)) 64 := vp_in_nI (by omega) (by omega)
      refine And.intro hw ?_
      by_cases e1 : ¬ up (a * 8 + i) = 0 ∧ fl (a * 8 + i) = 0
      · exact zb_t (by omega) (zp_sf1.mpr e1) hp
      · rw [decide_eq_false e1, Bool.false_or, Bool.and_eq_true] at e
        have hu := of_decide_eq_true e.1
        refine zb_f (by omega) (fun z => e1 (zp_sf1.mp z)) (And.intro hw ?_)
        refine zb_t (by omega) (zp_sf2.mpr ⟨hu, fun z => e1 ⟨hu, z⟩⟩) ?_
        refine zy_beats ha (by omega) ho ?_
        exact zb_b1 e.2 hp
    · intro m i hi h
      exact cont m i (by omega) (g2 i hi) h
  · rw [decide_eq_false hq] at hp
    refine zp_l0 (fun m i => wY_removable_36 post (nI a) (nI o) (nI n) (nI l) (nI L) (nI s) (zd_sf up fl) co D.1 D.2.1 D.2.2 us (zd_pk sd rc og ps pa pb) mk cm wk m (nI i)) n ?_ ?_
    · intro m
      exact br_t (nI_le (Nat.le_refl n) (by omega)) hp
    · intro m i hi h
      exact cont m i hi (g2 i (by omega)) h
theorem zy_t265 {post : Int32 → SY → Prop} {x : Int32} (hl : zd_lk up fl) (hn : n ≤ 8) (hp : post x (nI n, nI l, nI L, nI s, zd_sf up fl, co, (zd_rf n l L fl co D n).1, (zd_rf n l L fl co D n).2.1, (zd_rf n l L fl co D n).2.2, us, zd_pk sd rc og ps pa pb, mk, cm, wk)) : ∃ m, wY_tick_265 post x m 0 (nI n) (nI l) (nI L) (nI s) (zd_sf up fl) co D.1 D.2.1 D.2.2 us (zd_pk sd rc og ps pa pb) mk cm wk := by
  refine zp_l0 (fun m i => wY_tick_265 post x m (nI i) (nI n) (nI l) (nI L) (nI s) (zd_sf up fl) co ((zd_rf n l L fl co D i).1) ((zd_rf n l L fl co D i).2.1) ((zd_rf n l L fl co D i).2.2) us (zd_pk sd rc og ps pa pb) mk cm wk) n ?_ ?_
  · intro m
    exact br_t (nI_le (Nat.le_refl n) (by omega)) hp
  · intro m i hi h
    refine br_f (nI_ge hi (by omega)) ?_
    rw [zp_cell]
    have hv : vp_in (nI (i * 8 + i)) 64 := vp_in_nI (by omega) (by omega)
    have c31 : i * 8 + i < 2 ^ 31 := by omega
    generalize hD : zd_rf n l L fl co D i = E at *
    have yes : zd_rn L E i = true → wY_tick_317 post (wY_tick_265 post x m) x (nI i) (nI n) (nI l) (nI L) (nI s) (zd_sf up fl) co E.1 E.2.1 E.2.2 us (zd_pk sd rc og ps pa pb) mk cm wk := by
      intro e
      have e2 : zd_rf n l L fl co D (i + 1) = zd_og n l L fl co (zd_rf n l L fl co D i) i := if_pos (by rw [hD]; exact e)
      rw [e2, hD] at h
      unfold wY_tick_317
      refine zy_orig hl.1 hn (by omega) ?_
      exact nm_r (nI_1 i) h
    have no : zd_rn L E i = false → wY_tick_265 post x m (nI (i + 1)) (nI n) (nI l) (nI L) (nI s) (zd_sf up fl) co E.1 E.2.1 E.2.2 us (zd_pk sd rc og ps pa pb) mk cm wk := by
      intro e
      have e2 : zd_rf n l L fl co D (i + 1) = zd_rf n l L fl co D i := if_neg (by rw [hD, e]; decide)
      rw [e2, hD] at h
      exact h
    unfold zd_rn at yes no
    refine And.intro hv ?_
    refine nm_r (zp_rd c31) ?_
    refine And.intro hv ?_
    by_cases h1 : E.1 (i * 8 + i) = 0
    · exact zb_t c31 h1 (yes (by rw [decide_eq_true h1]; rfl))
    · refine zb_f c31 h1 ?_
      rw [decide_eq_false h1, Bool.false_or] at yes no
      by_cases h2 : E.2.1 (i * 8 + i) = nI L
      · refine br_t h2 (nm_r (nI_1 i) (no (by rw [decide_eq_false (fun z => z h2)]; rfl)))
      · rw [decide_eq_true h2, Bool.true_and] at yes no
        refine br_f h2 (And.intro (by decide) ?_)
        by_cases h3 : E.2.1 (i * 8 + i) < nI L / 2
        · exact br_t h3 (nm_r (nI_1 i) (no (by rw [decide_eq_false (fun z => z h3)])))
        · exact br_f h3 (yes (by rw [decide_eq_true h3]))
theorem zy_t177 {post : Int32 → SY → Prop} {x : Int32} (hs : s ≤ 16) (hp : ∃ m, wY_tick_265 post x m 0 (nI n) (nI l) (nI L) (nI s) (zd_sf up fl) co D.1 D.2.1 D.2.2 us (zd_pk sd rc og ps ((zd_ap L us pa pb s).1) ((zd_ap L us pa pb s).2)) mk cm wk) : ∃ m, wY_tick_177 post x (nI n) (nI l) (nI L) (nI s) m 0 (zd_sf up fl) co D.1 D.2.1 D.2.2 us (zd_pk sd rc og ps pa pb) mk cm wk := by
  refine zp_l0 (fun m i => wY_tick_177 post x (nI n) (nI l) (nI L) (nI s) m (nI i) (zd_sf up fl) co D.1 D.2.1 D.2.2 us (zd_pk sd rc og ps ((zd_ap L us pa pb i).1) ((zd_ap L us pa pb i).2)) mk cm wk) s ?_ ?_
  · intro m
    exact br_t (nI_le (Nat.le_refl s) (by omega)) hp
  · intro m i hi h
    have hv : vp_in (nI i) 16 := vp_in_nI (by omega) (by omega)
    have c31 : i < 2 ^ 31 := by omega
    have d31 : i * 6 + 1 < 2 ^ 31 := by omega
    have hw : vp_in (nI (i * 6 + 1)) 96 := vp_in_nI (by omega) (by omega)
    refine br_f (nI_ge hi (by omega)) (And.intro hv ?_)
    by_cases h1 : us i = 0
    · have e2 : zd_ap L us pa pb (i + 1) = zd_ap L us pa pb i := if_pos h1
      rw [e2] at h
      exact zb_t c31 h1 (nm_r (nI_1 i) h)
    refine zb_f c31 h1 ?_
    rw [zp_61, zp_62]
    refine And.intro hw ?_
    rw [nI_clamp d31, zp_pk1]
    by_cases h2 : nI L ≤ (zd_ap L us pa pb i).1 i
    · have e2 : zd_ap L us pa pb (i + 1) = zd_ap L us pa pb i := (if_neg h1).trans (if_pos h2)
      rw [e2] at h
      refine br_t h2 ?_
      exact nm_r (nI_1 i) h
    refine br_f h2 (And.intro hw (And.intro hw ?_))
    refine nm_r (zp_pu1 i _) ?_
    refine And.intro hw ?_
    by_cases h3 : (zd_ap L us pa pb i).1 i + 1 = nI L
    · have e2 : zd_ap L us pa pb (i + 1) = (upd (zd_ap L us pa pb i).1 i ((zd_ap L us pa pb i).1 i + 1), upd (zd_ap L us pa pb i).2 i 0) := (if_neg h1).trans ((if_neg h2).trans (if_pos h3))
      rw [e2] at h
      refine br_t ((zp_pk1 i).trans (pk_us.trans h3)) (And.intro (vp_in_nI (by omega) (by omega)) ?_)
      refine nm_r ((zp_up (by omega)).trans (zp_pu2 i _)) ?_
      exact nm_r (nI_1 i) h
    · have e2 : zd_ap L us pa pb (i + 1) = (upd (zd_ap L us pa pb i).1 i ((zd_ap L us pa pb i).1 i + 1), (zd_ap L us pa pb i).2) := (if_neg h1).trans ((if_neg h2).trans (if_neg h3))
      rw [e2] at h
      refine br_f (fun z => h3 (pk_us.symm.trans ((zp_pk1 i).symm.trans z))) ?_
      exact nm_r (nI_1 i) h
theorem zy_t111 {post : Int32 → SY → Prop} {x : Int32} (hq : ∀ i, 0 ≤ D.1 i) (hp : ∃ m, wY_tick_177 post x (nI n) (nI l) (nI L) (nI s) m 0 (zd_sf up fl) co ((zd_ac L D 64).1) ((zd_ac L D 64).2.1) ((zd_ac L D 64).2.2) us (zd_pk sd rc og ps pa pb) mk cm wk) : ∃ m, wY_tick_111 post x (nI n) (nI l) (nI L) (nI s) m 0 (zd_sf up fl) co D.1 D.2.1 D.2.2 us (zd_pk sd rc og ps pa pb) mk cm wk := by
  refine zp_l0 (fun m i => wY_tick_111 post x (nI n) (nI l) (nI L) (nI s) m (nI i) (zd_sf up fl) co ((zd_ac L D i).1) ((zd_ac L D i).2.1) ((zd_ac L D i).2.2) us (zd_pk sd rc og ps pa pb) mk cm wk) 64 ?_ ?_
  · intro m
    exact br_t (nI_le (a := 64) (b := 64) (by omega) (by omega)) hp
  · intro m i hi h
    have hv : vp_in (nI i) 64 := vp_in_nI hi (by omega)
    have c31 : i < 2 ^ 31 := by omega
    refine br_f (nI_ge (b := 64) hi (by omega)) (And.intro hv ?_)
    have hge : 0 ≤ (zd_ac L D i).1 i := by rw [zp_ac1]; exact hq i
    by_cases h1 : (zd_ac L D i).1 i = 0
    · have e2 : zd_ac L D (i + 1) = zd_ac L D i := if_pos h1
      rw [e2] at h
      exact br_t (by rw [nI_clamp c31]; exact (zp_le0 hge).mpr h1) (nm_r (nI_1 i) h)
    refine br_f (by rw [nI_clamp c31]; exact fun z => h1 ((zp_le0 hge).mp z)) (And.intro hv ?_)
    by_cases h2 : nI L ≤ (zd_ac L D i).2.1 i
    · have e2 : zd_ac L D (i + 1) = zd_ac L D i := (if_neg h1).trans (if_pos h2)
      rw [e2] at h
      refine br_t (by rw [nI_clamp c31]; exact h2) ?_
      exact nm_r (nI_1 i) h
    refine br_f (by rw [nI_clamp c31]; exact h2) (And.intro hv (And.intro hv ?_))
    refine nm_r (e' := upd (zd_ac L D i).2.1 i ((zd_ac L D i).2.1 i + 1)) (by rw [nI_clamp c31]) ?_
    refine And.intro hv ?_
    by_cases h3 : (zd_ac L D i).2.1 i + 1 = nI L
    · have e2 : zd_ac L D (i + 1) = ((zd_ac L D i).1, upd (zd_ac L D i).2.1 i ((zd_ac L D i).2.1 i + 1), upd (zd_ac L D i).2.2 i 0) := (if_neg h1).trans ((if_neg h2).trans (if_pos h3))
      rw [e2] at h
      refine zb_t c31 (pk_us.trans h3) (And.intro hv ?_)
      refine nm_r (zp_up c31) ?_
      exact nm_r (nI_1 i) h
    · have e2 : zd_ac L D (i + 1) = ((zd_ac L D i).1, upd (zd_ac L D i).2.1 i ((zd_ac L D i).2.1 i + 1), (zd_ac L D i).2.2) := (if_neg h1).trans ((if_neg h2).trans (if_neg h3))
      rw [e2] at h
      refine zb_f c31 (fun z => h3 (pk_us.symm.trans z)) ?_
      exact nm_r (nI_1 i) h
theorem zy_t53 {post : Int32 → SY → Prop} {c : Nat → Bool} (hn : n ≤ 8) (hc : ∀ a o, a < n → o < n → (mk (a * 8 + o) = 0 ↔ c (a * 8 + o) = false)) (ho : ∀ h, n ≤ h / 8 ∨ n ≤ h % 8 → c h = false)
    (hp : ∃ m, wY_tick_111 post (nI (zd_rv c D 64).2) (nI n) (nI l) (nI L) (nI s) m 0 (zd_sf up fl) co (((zd_rv c D 64).1).1) (((zd_rv c D 64).1).2.1) (((zd_rv c D 64).1).2.2) us (zd_pk sd rc og ps pa pb) mk cm wk) : ∃ m, wY_tick_53 post m 0 0 (nI n) (nI l) (nI L) (nI s) (zd_sf up fl) co D.1 D.2.1 D.2.2 us (zd_pk sd rc og ps pa pb) mk cm wk := by
  have go : ∃ m, wY_tick_53 post m (nI (zd_rv c D (0 * 8)).2) (nI 0) (nI n) (nI l) (nI L) (nI s) (zd_sf up fl) co (((zd_rv c D (0 * 8)).1).1) (((zd_rv c D (0 * 8)).1).2.1) (((zd_rv c D (0 * 8)).1).2.2) us (zd_pk sd rc og ps pa pb) mk cm wk := by
    refine zp_l0 (fun m a => wY_tick_53 post m (nI (zd_rv c D (a * 8)).2) (nI a) (nI n) (nI l) (nI L) (nI s) (zd_sf up fl) co (((zd_rv c D (a * 8)).1).1) (((zd_rv c D (a * 8)).1).2.1) (((zd_rv c D (a * 8)).1).2.2) us (zd_pk sd rc og ps pa pb) mk cm wk) n ?_ ?_
    · intro m
      refine br_t (nI_le (Nat.le_refl n) (by omega)) ?_
      have e := zp_rvs c D (n * 8) (64 - n * 8) (fun h h1 h2 => ho h (Or.inl (by omega)))
      rw [show n * 8 + (64 - n * 8) = 64 by omega] at e
      rw [← e]
      exact hp
    · intro m a ha h
      refine br_f (nI_ge ha (by omega)) ?_
      refine zp_l0 (fun k o => wY_tick_63 post (wY_tick_53 post m) (nI a) k (nI (zd_rv c D (a * 8 + o)).2) (nI o) (nI n) (nI l) (nI L) (nI s) (zd_sf up fl) co (((zd_rv c D (a * 8 + o)).1).1) (((zd_rv c D (a * 8 + o)).1).2.1) (((zd_rv c D (a * 8 + o)).1).2.2) us (zd_pk sd rc og ps pa pb) mk cm wk) n ?_ ?_
      · intro k
        refine br_t (nI_le (Nat.le_refl n) (by omega)) ?_
        refine nm_r (nI_1 a) ?_
        have e := zp_rvs c D (a * 8 + n) (8 - n) (fun h h1 h2 => ho h (Or.inr (by omega)))
        rw [show a * 8 + n + (8 - n) = (a + 1) * 8 by omega] at e
        rw [← e]
        exact h
      · intro k o ho2 g
        refine br_f (nI_ge ho2 (by omega)) ?_
        rw [zp_cell]
        refine And.intro (vp_in_nI (by omega) (by omega)) ?_
        by_cases e : c (a * 8 + o) = true
        · refine zb_f (by omega) (fun z => absurd ((hc a o ha ho2).mp z) (by rw [e]; decide)) ?_
          refine zy_store (by omega) (by omega) ?_
          have e2 : zd_rv c D (a * 8 + o + 1) = (zd_st (zd_rv c D (a * 8 + o)).1 (a * 8 + o) 0 0 0, (zd_rv c D (a * 8 + o)).2 + 1) := if_pos e
          rw [← Nat.add_assoc, e2] at g
          refine nm_r (nI_1 _) ?_
          exact nm_r (nI_1 o) g
        · refine zb_t (by omega) ((hc a o ha ho2).mpr (zp_nf e)) ?_
          have e2 : zd_rv c D (a * 8 + o + 1) = zd_rv c D (a * 8 + o) := if_neg e
          rw [← Nat.add_assoc, e2] at g
          exact nm_r (nI_1 o) g
  rw [Nat.zero_mul] at go
  exact go
theorem zy_tick {post : Int32 → SY → Prop} {c : Nat → Bool} (hl : zd_lk up fl) (hq : ∀ i, 0 ≤ (zd_rv c D 64).1.1 i) (hn : n ≤ 8) (hs : s ≤ 16) (hc : ∀ a o, a < n → o < n → (zd_mk n (zd_rc n L up fl D) mk (n * 8) (a * 8 + o) = 0 ↔ c (a * 8 + o) = false)) (ho : ∀ h, n ≤ h / 8 ∨ n ≤ h % 8 → c h = false)
    (hp : post (nI (zd_rv c D 64).2) (nI n, nI l, nI L, nI s, zd_sf up fl, co, (zd_rf n l L fl co (zd_ac L (zd_rv c D 64).1 64) n).1, (zd_rf n l L fl co (zd_ac L (zd_rv c D 64).1 64) n).2.1, (zd_rf n l L fl co (zd_ac L (zd_rv c D 64).1 64) n).2.2, us, zd_pk sd rc og ps ((zd_ap L us pa pb s).1) ((zd_ap L us pa pb s).2), zd_mk n (zd_rc n L up fl D) mk (n * 8), cm, wk)) : wpY_tick post (nI n, nI l, nI L, nI s, zd_sf up fl, co, D.1, D.2.1, D.2.2, us, zd_pk sd rc og ps pa pb, mk, cm, wk) := by
  have e0 := zp_mk0 n (zd_rc n L up fl D) mk
  have go : ∃ m, wY_tick_4 post 0 (nI n) (nI l) (nI L) (nI s) m (nI 0) (zd_sf up fl) co D.1 D.2.1 D.2.2 us (zd_pk sd rc og ps pa pb) (zd_mk n (zd_rc n L up fl D) mk (0 * 8)) cm wk := by
    refine zp_l0 (fun m a => wY_tick_4 post 0 (nI n) (nI l) (nI L) (nI s) m (nI a) (zd_sf up fl) co D.1 D.2.1 D.2.2 us (zd_pk sd rc og ps pa pb) (zd_mk n (zd_rc n L up fl D) mk (a * 8)) cm wk) n ?_ ?_
    · intro m
      refine br_t (nI_le (Nat.le_refl n) (by omega)) ?_
      refine zy_t53 hn hc ho ?_
      refine zy_t111 hq ?_
      refine zy_t177 hs ?_
      exact zy_t265 hl hn hp
    · intro m a ha h
      refine br_f (nI_ge ha (by omega)) ?_
      refine zp_l0 (fun k o => wY_tick_14 post (wY_tick_4 post 0 (nI n) (nI l) (nI L) (nI s) m) 0 (nI a) (nI n) (nI l) (nI L) (nI s) k (nI o) (zd_sf up fl) co D.1 D.2.1 D.2.2 us (zd_pk sd rc og ps pa pb) (zd_mk n (zd_rc n L up fl D) mk (a * 8 + o)) cm wk) n ?_ ?_
      · intro k
        refine br_t (nI_le (Nat.le_refl n) (by omega)) ?_
        refine nm_r (nI_1 a) ?_
        rw [zp_mk2 _ _ hn]; exact h
      · intro k o ho2 g
        refine br_f (nI_ge ho2 (by omega)) ?_
        refine zy_removable hn (by omega) (by omega) ?_
        rw [zp_cell]
        refine And.intro (vp_in_nI (by omega) (by omega)) ?_
        refine nm_r ((zp_un (by omega) (zp_nb _)).trans (zp_mk1 _ _ ho2 hn)) ?_
        exact nm_r (nI_1 o) g
  rw [Nat.zero_mul, e0] at go
  exact go
end
end
section
/- reachability, by rounds -/
def zg_B (n : Nat) (g : Nat → Nat → Bool) (c : Nat) : Nat → Nat → Bool
  | 0, r => decide (r = c)
  | k + 1, r => zg_B n g c k r || (List.range n).any (fun u => zg_B n g c k u && g u r)
def zg_cn (p : Nat → Bool) : Nat → Nat
  | 0 => 0
  | k + 1 => zg_cn p k + (if p k = true then 1 else 0)
theorem zg_cn_n (p : Nat → Bool) : ∀ n, zg_cn p n ≤ n := by
  intro n
  induction n with
  | zero => exact Nat.le_refl _
  | succ n ih => unfold zg_cn; by_cases h : p n = true <;> simp only [h, if_true, if_false] <;> simp <;> omega
theorem zg_cn_s (p : Nat → Bool) (k : Nat) : (p k = true → zg_cn p (k + 1) = zg_cn p k + 1) ∧ (p k = false → zg_cn p (k + 1) = zg_cn p k) := by
  constructor
  · intro h; show zg_cn p k + (if p k = true then 1 else 0) = _; rw [if_pos h]
  · intro h; show zg_cn p k + (if p k = true then 1 else 0) = _; rw [if_neg (by rw [h]; decide)]; rfl
theorem zg_cn_le (p q : Nat → Bool) : ∀ n, (∀ r, r < n → p r = true → q r = true) → zg_cn p n ≤ zg_cn q n := by
  intro n
  induction n with
  | zero => intro _; exact Nat.le_refl _
  | succ n ih =>
    intro h
    have h1 := ih (fun r hr => h r (by omega))
    have sp := zg_cn_s p n
    have sq := zg_cn_s q n
    by_cases hp : p n = true
    · have e1 := sp.1 hp
      have e2 := sq.1 (h n (by omega) hp)
      omega
    · have e1 := sp.2 (zp_nf hp)
      by_cases hq : q n = true
      · have e2 := sq.1 hq; omega
      · have e2 := sq.2 (zp_nf hq); omega
theorem zg_cn_lt (p q : Nat → Bool) : ∀ n, (∀ r, r < n → p r = true → q r = true) → (∃ r, r < n ∧ q r = true ∧ p r = false) → zg_cn p n < zg_cn q n := by
  intro n
  induction n with
  | zero => intro _ h; obtain ⟨r, hr, _⟩ := h; omega
  | succ n ih =>
    intro h hx
    obtain ⟨r, hr, hq, hp⟩ := hx
    have sp := zg_cn_s p n
    have sq := zg_cn_s q n
    by_cases e : r = n
    · subst e
      have e1 := sp.2 hp
      have e2 := sq.1 hq
      have h1 := zg_cn_le p q r (fun k hk => h k (by omega))
      omega
    · have h1 := ih (fun k hk => h k (by omega)) ⟨r, by omega, hq, hp⟩
      by_cases hpn : p n = true
      · have e1 := sp.1 hpn
        have e2 := sq.1 (h n (by omega) hpn)
        omega
      · have e1 := sp.2 (zp_nf hpn)
        by_cases hqn : q n = true
        · have e2 := sq.1 hqn; omega
        · have e2 := sq.2 (zp_nf hqn); omega
section
variable {n : Nat} {g : Nat → Nat → Bool} {c : Nat}
theorem zg_Bs (k r : Nat) : zg_B n g c (k + 1) r = true ↔ zg_B n g c k r = true ∨ ∃ u, u < n ∧ zg_B n g c k u = true ∧ g u r = true := by
  show (zg_B n g c k r || (List.range n).any (fun u => zg_B n g c k u && g u r)) = true ↔ _
  rw [Bool.or_eq_true, List.any_eq_true]
  constructor
  · intro h
    rcases h with h | ⟨u, hu, h⟩
    · exact Or.inl h
    · rw [Bool.and_eq_true] at h
      exact Or.inr ⟨u, List.mem_range.mp hu, h.1, h.2⟩
  · intro h
    rcases h with h | ⟨u, hu, h1, h2⟩
    · exact Or.inl h
    · exact Or.inr ⟨u, List.mem_range.mpr hu, by rw [h1, h2]; rfl⟩
theorem zg_B0 (r : Nat) : zg_B n g c 0 r = true ↔ r = c := by
  show decide (r = c) = true ↔ _
  exact decide_eq_true_iff
theorem zg_stab (k : Nat) (h : ∀ r, r < n → zg_B n g c (k + 1) r = true → zg_B n g c k r = true) : ∀ r, r < n → zg_B n g c (k + 2) r = true → zg_B n g c (k + 1) r = true := by
  intro r hr h2
  rcases (zg_Bs (k + 1) r).mp h2 with h3 | ⟨u, hu, h3, h4⟩
  · exact h3
  · exact (zg_Bs k r).mpr (Or.inr ⟨u, hu, h u hu h3, h4⟩)
theorem zg_dich (hc : c < n) : ∀ k, (∀ r, r < n → zg_B n g c (k + 1) r = true → zg_B n g c k r = true) ∨ k + 1 ≤ zg_cn (zg_B n g c k) n := by
  intro k
  induction k with
  | zero =>
    right
    have h := zg_cn_lt (fun _ => false) (zg_B n g c 0) n (fun r _ z => absurd z (by decide)) ⟨c, hc, (zg_B0 c).mpr rfl, rfl⟩
    omega
  | succ k ih =>
    rcases ih with h | h
    · exact Or.inl (zg_stab k h)
    · by_cases hs : ∀ r, r < n → zg_B n g c (k + 1) r = true → zg_B n g c k r = true
      · exact Or.inl (zg_stab k hs)
      · right
        have hx : ∃ r, r < n ∧ zg_B n g c (k + 1) r = true ∧ zg_B n g c k r = false := by
          apply Classical.byContradiction
          intro hno
          apply hs
          intro r hr h1
          by_cases h2 : zg_B n g c k r = true
          · exact h2
          · exact absurd ⟨r, hr, h1, zp_nf h2⟩ hno
        have h3 := zg_cn_lt (zg_B n g c k) (zg_B n g c (k + 1)) n (fun r _ z => (zg_Bs k r).mpr (Or.inl z)) hx
        omega
/-- reached from c -/
def zg_R (n : Nat) (g : Nat → Nat → Bool) (c r : Nat) : Bool := zg_B n g c n r
theorem zg_mono (k : Nat) : ∀ d r, zg_B n g c k r = true → zg_B n g c (k + d) r = true := by
  intro d
  induction d with
  | zero => intro r h; exact h
  | succ d ih => intro r h; exact (zg_Bs (k + d) r).mpr (Or.inl (ih r h))
theorem zg_closed (hc : c < n) : ∀ r, r < n → zg_B n g c (n + 1) r = true → zg_B n g c n r = true := by
  rcases zg_dich (g := g) hc n with h | h
  · exact h
  · have := zg_cn_n (zg_B n g c n) n; omega
theorem zg_refl : zg_R n g c c = true := by
  have h := zg_mono (n := n) (g := g) (c := c) 0 n c ((zg_B0 c).mpr rfl)
  rw [Nat.zero_add] at h
  exact h
theorem zg_step {u r : Nat} (hc : c < n) (hu : u < n) (hr : r < n) (h : zg_R n g c u = true) (hg : g u r = true) : zg_R n g c r = true :=
  zg_closed hc r hr ((zg_Bs n r).mpr (Or.inr ⟨u, hu, h, hg⟩))
theorem zg_ind (S : Nat → Prop) (h0 : S c) (hs : ∀ u r, u < n → r < n → S u → g u r = true → S r) : ∀ k r, r < n → zg_B n g c k r = true → S r := by
  intro k
  induction k with
  | zero => intro r _ h; rw [(zg_B0 r).mp h]; exact h0
  | succ k ih =>
    intro r hr h
    rcases (zg_Bs k r).mp h with h1 | ⟨u, hu, h1, h2⟩
    · exact ih r hr h1
    · exact hs u r hu hr (ih u hu h1) h2
end
section
variable {n : Nat} {g : Nat → Nat → Bool}
theorem zg_B_R {c k r : Nat} (hc : c < n) (hr : r < n) (h : zg_B n g c k r = true) : zg_R n g c r = true :=
  zg_ind (fun x => zg_R n g c x = true) zg_refl (fun u r hu hr h hg => zg_step hc hu hr h hg) k r hr h
theorem zg_trans {a b d : Nat} (ha : a < n) (hb : b < n) (hd : d < n) (h1 : zg_R n g a b = true) (h2 : zg_R n g b d = true) : zg_R n g a d = true :=
  zg_ind (fun x => zg_R n g a x = true) h1 (fun u r hu hr h hg => zg_step ha hu hr h hg) n d hd h2
theorem zg_edge {a b : Nat} (ha : a < n) (hb : b < n) (h : g a b = true) : zg_R n g a b = true := zg_step ha ha hb zg_refl h
theorem zg_symm (hg : ∀ a b, a < n → b < n → g a b = g b a) {a b : Nat} (ha : a < n) (hb : b < n) (h : zg_R n g a b = true) : zg_R n g b a = true :=
  zg_ind (fun x => x < n → zg_R n g x a = true) (fun _ => zg_refl) (fun u r hu hr h hgu _ => zg_trans hr hu ha (zg_edge hr hu (by rw [← hg u r hu hr]; exact hgu)) (h hu)) n b hb h hb
end
/-- the least router of its component -/
def zg_ld (n : Nat) (g : Nat → Nat → Bool) (r : Nat) : Bool := !(List.range r).any (fun c => zg_R n g c r)
theorem zg_ld_iff {n : Nat} {g : Nat → Nat → Bool} {r : Nat} : zg_ld n g r = true ↔ ∀ c, c < r → zg_R n g c r = false := by
  unfold zg_ld
  rw [Bool.not_eq_true', List.any_eq_false]
  constructor
  · intro h c hc
    exact zp_nf (h c (List.mem_range.mpr hc))
  · intro h c hc
    rw [h c (List.mem_range.mp hc)]; decide
/-! the component's sets of bits -/
def zd_un (up : Nat → Int32) (r : Nat) : Nat → Int32
  | 0 => 0
  | k + 1 => if up (r * 8 + k) = 0 then zd_un up r k else zd_un up r k ||| ((1 : Int32) <<< (nI k &&& 31))
theorem zp_un_bit {up : Nat → Int32} {r : Nat} : ∀ k, k ≤ 8 → ∀ j, j < 32 → bt (zd_un up r k) j = (decide (j < k) && decide (¬ up (r * 8 + j) = 0)) := by
  intro k
  induction k with
  | zero => intro _ j hj; show bt 0 j = _; rw [b_0, decide_eq_false (by omega), Bool.false_and]
  | succ k ih =>
    intro hk j hj
    have h := ih (by omega) j hj
    by_cases e : up (r * 8 + k) = 0
    · have e2 : zd_un up r (k + 1) = zd_un up r k := if_pos e
      rw [e2, h]
      by_cases hjk : j = k
      · subst hjk; rw [decide_eq_false (p := ¬ up (r * 8 + j) = 0) (fun z => z e), Bool.and_false, Bool.and_false]
      · rw [show decide (j < k + 1) = decide (j < k) from decide_eq_decide.mpr (by omega)]
    · have e2 : zd_un up r (k + 1) = zd_un up r k ||| ((1 : Int32) <<< (nI k &&& 31)) := if_neg e
      rw [e2, zp_orbit (by omega) hj, h]
      by_cases hjk : j = k
      · subst hjk; rw [decide_eq_true (p := ¬ up (r * 8 + j) = 0) e]; simp
      · rw [show decide (j < k + 1) = decide (j < k) from decide_eq_decide.mpr (by omega), decide_eq_false hjk, Bool.or_false]
def zd_cu (n : Nat) (up : Nat → Int32) (x : Int32) : Nat → Int32
  | 0 => x
  | k + 1 => if bt (zd_cu n up x k) k = true then zd_cu n up x k ||| zd_un up k n else zd_cu n up x k
def zd_cp (n : Nat) (up : Nat → Int32) (c : Nat) : Nat → Int32
  | 0 => (1 : Int32) <<< (nI c &&& 31)
  | k + 1 => zd_cu n up (zd_cp n up c k) n
def zd_g (up : Nat → Int32) : Nat → Nat → Bool := fun a b => decide (¬ up (a * 8 + b) = 0)
theorem zp_cu_mono {n : Nat} {up : Nat → Int32} {x : Int32} {j : Nat} : ∀ k, bt x j = true → bt (zd_cu n up x k) j = true := by
  intro k
  induction k with
  | zero => exact fun h => h
  | succ k ih =>
    intro h
    have h1 := ih h
    unfold zd_cu
    by_cases e : bt (zd_cu n up x k) k = true
    · rw [if_pos e, b_or, h1]; rfl
    · rw [if_neg e]; exact h1
theorem zp_cu_get {n : Nat} {up : Nat → Int32} {x : Int32} {u j : Nat} (hn : n ≤ 8) (hj : j < n) (hu : bt x u = true) (hg : zd_g up u j = true) : ∀ k, u < k → bt (zd_cu n up x k) j = true := by
  intro k
  induction k with
  | zero => intro h; omega
  | succ k ih =>
    intro h
    unfold zd_cu
    by_cases e : u = k
    · subst e
      rw [if_pos (zp_cu_mono u hu), b_or, zp_un_bit n hn j (by omega), decide_eq_true hj]
      unfold zd_g at hg
      rw [hg]; simp
    · have h1 := ih (by omega)
      by_cases e2 : bt (zd_cu n up x k) k = true
      · rw [if_pos e2, b_or, h1]; rfl
      · rw [if_neg e2]; exact h1
theorem zp_cu_sound {n : Nat} {up : Nat → Int32} {x : Int32} (S : Nat → Prop) (hn : n ≤ 8) (hs : ∀ u r, u < n → r < n → S u → zd_g up u r = true → S r) (h0 : ∀ j, j < n → bt x j = true → S j) : ∀ k, k ≤ n → ∀ j, j < n → bt (zd_cu n up x k) j = true → S j := by
  intro k
  induction k with
  | zero => intro _; exact h0
  | succ k ih =>
    intro hk j hj h
    have ih := ih (by omega)
    unfold zd_cu at h
    by_cases e : bt (zd_cu n up x k) k = true
    · rw [if_pos e, b_or, Bool.or_eq_true] at h
      rcases h with h | h
      · exact ih j hj h
      · rw [zp_un_bit n hn j (by omega), Bool.and_eq_true] at h
        exact hs k j (by omega) hj (ih k (by omega) e) h.2
    · rw [if_neg e] at h; exact ih j hj h
theorem zp_cp {n : Nat} {up : Nat → Int32} {c : Nat} (hn : n ≤ 8) (hc : c < n) : ∀ j, j < n → bt (zd_cp n up c n) j = zg_R n (zd_g up) c j := by
  have snd : ∀ k j, j < n → bt (zd_cp n up c k) j = true → zg_R n (zd_g up) c j = true := by
    intro k
    induction k with
    | zero =>
      intro j hj h
      have e : bt ((1 : Int32) <<< (nI c &&& 31)) j = true := h
      rw [zp_bit1 (by omega) (by omega)] at e
      rw [of_decide_eq_true e]; exact zg_refl
    | succ k ih => exact fun j hj h => zp_cu_sound (fun x => zg_R n (zd_g up) c x = true) hn (fun u r hu hr h hg => zg_step hc hu hr h hg) ih n (Nat.le_refl n) j hj h
  have cmp : ∀ k j, j < n → zg_B n (zd_g up) c k j = true → bt (zd_cp n up c k) j = true := by
    intro k
    induction k with
    | zero =>
      intro j hj h
      rw [(zg_B0 j).mp h]
      show bt ((1 : Int32) <<< (nI c &&& 31)) c = true
      rw [zp_bit1 (by omega) (by omega)]; exact decide_eq_true rfl
    | succ k ih =>
      intro j hj h
      rcases (zg_Bs k j).mp h with h1 | ⟨u, hu, h1, h2⟩
      · exact zp_cu_mono n (ih j hj h1)
      · exact zp_cu_get hn hj (ih u hu h1) h2 n hu
  intro j hj
  by_cases h : zg_R n (zd_g up) c j = true
  · rw [h]; exact cmp n j hj h
  · rw [zp_nf h]
    exact zp_nf (fun z => h (snd n j hj z))
/-! the reference's names -/
def zd_c0 (cm : Nat → Int32) : Nat → Nat → Int32
  | 0 => cm
  | k + 1 => upd (zd_c0 cm k) k (nI k)
theorem zp_c0 (cm : Nat → Int32) : ∀ k j, j < k → zd_c0 cm k j = nI j := by
  intro k
  induction k with
  | zero => intro j hj; omega
  | succ k ih =>
    intro j hj
    by_cases e : j = k
    · rw [e]; exact pk_us
    · exact (pk_un e).trans (ih j (by omega))
def zd_s1 (g : Nat → Nat → Bool) (a : Nat) (cm : Nat → Int32) : Nat → Nat → Int32
  | 0 => cm
  | b + 1 => if g a b = true ∧ ¬ zd_s1 g a cm b a ≤ zd_s1 g a cm b b then upd (zd_s1 g a cm b) a (zd_s1 g a cm b b) else zd_s1 g a cm b
def zd_s2 (n : Nat) (g : Nat → Nat → Bool) (cm : Nat → Int32) : Nat → Nat → Int32
  | 0 => cm
  | a + 1 => zd_s1 g a (zd_s2 n g cm a) n
def zd_s3 (n : Nat) (g : Nat → Nat → Bool) (cm : Nat → Int32) : Nat → Nat → Int32
  | 0 => cm
  | k + 1 => zd_s2 n g (zd_s3 n g cm k) n
section
variable {n : Nat} {g : Nat → Nat → Bool} {cm : Nat → Int32} {a : Nat}
theorem zs_other {j : Nat} (hj : j ≠ a) : ∀ b, zd_s1 g a cm b j = cm j := by
  intro b
  induction b with
  | zero => rfl
  | succ b ih =>
    unfold zd_s1
    by_cases h : g a b = true ∧ ¬ zd_s1 g a cm b a ≤ zd_s1 g a cm b b
    · rw [if_pos h, pk_un hj]; exact ih
    · rw [if_neg h]; exact ih
theorem zs_dec1 (j : Nat) : ∀ b, zd_s1 g a cm (b + 1) j ≤ zd_s1 g a cm b j := by
  intro b
  show (if g a b = true ∧ ¬ zd_s1 g a cm b a ≤ zd_s1 g a cm b b then upd (zd_s1 g a cm b) a (zd_s1 g a cm b b) else zd_s1 g a cm b) j ≤ _
  by_cases h : g a b = true ∧ ¬ zd_s1 g a cm b a ≤ zd_s1 g a cm b b
  · rw [if_pos h]
    by_cases e : j = a
    · rw [e, pk_us]; exact Int32.le_of_lt (Int32.not_le.mp h.2)
    · rw [pk_un e]; exact Int32.le_rfl
  · rw [if_neg h]; exact Int32.le_rfl
theorem zs_decd (j b : Nat) : ∀ d, zd_s1 g a cm (b + d) j ≤ zd_s1 g a cm b j := by
  intro d
  induction d with
  | zero => exact Int32.le_rfl
  | succ d ih => exact Int32.le_trans (zs_dec1 j (b + d)) ih
theorem zs_dec (j k : Nat) : zd_s1 g a cm k j ≤ cm j := by
  have h := zs_decd (g := g) (a := a) (cm := cm) j 0 k
  rw [Nat.zero_add] at h
  exact h
theorem zs_get {b k : Nat} (hb : b < k) (hg : g a b = true) : zd_s1 g a cm k a ≤ cm b := by
  have h1 : zd_s1 g a cm (b + 1) a ≤ zd_s1 g a cm b b := by
    show (if g a b = true ∧ ¬ zd_s1 g a cm b a ≤ zd_s1 g a cm b b then upd (zd_s1 g a cm b) a (zd_s1 g a cm b b) else zd_s1 g a cm b) a ≤ _
    by_cases h : g a b = true ∧ ¬ zd_s1 g a cm b a ≤ zd_s1 g a cm b b
    · rw [if_pos h, pk_us]; exact Int32.le_rfl
    · rw [if_neg h]
      by_cases h2 : zd_s1 g a cm b a ≤ zd_s1 g a cm b b
      · exact h2
      · exact absurd ⟨hg, h2⟩ h
  have h2 := zs_decd (g := g) (a := a) (cm := cm) a (b + 1) (k - (b + 1))
  rw [show b + 1 + (k - (b + 1)) = k by omega] at h2
  exact Int32.le_trans h2 (Int32.le_trans h1 (zs_dec b b))
theorem zs_sound (S : Nat → Int32 → Prop) (ha : a < n) (hs : ∀ b v, b < n → g a b = true → S b v → S a v) (h0 : ∀ j, j < n → S j (cm j)) : ∀ k, k ≤ n → ∀ j, j < n → S j (zd_s1 g a cm k j) := by
  intro k
  induction k with
  | zero => intro _; exact h0
  | succ k ih =>
    intro hk j hj
    have ih := ih (by omega)
    unfold zd_s1
    by_cases h : g a k = true ∧ ¬ zd_s1 g a cm k a ≤ zd_s1 g a cm k k
    · rw [if_pos h]
      by_cases e : j = a
      · rw [e, pk_us]; exact hs k _ (by omega) h.1 (ih k (by omega))
      · rw [pk_un e]; exact ih j hj
    · rw [if_neg h]; exact ih j hj
theorem zt_decd (j b : Nat) : ∀ d, zd_s2 n g cm (b + d) j ≤ zd_s2 n g cm b j := by
  intro d
  induction d with
  | zero => exact Int32.le_rfl
  | succ d ih => exact Int32.le_trans (zs_dec j n) ih
theorem zt_dec (j k : Nat) : zd_s2 n g cm k j ≤ cm j := by
  have h := zt_decd (n := n) (g := g) (cm := cm) j 0 k
  rw [Nat.zero_add] at h
  exact h
theorem zt_get {b : Nat} (ha : a < n) (hb : b < n) (hg : g a b = true) : zd_s2 n g cm n a ≤ cm b := by
  have h1 : zd_s2 n g cm (a + 1) a ≤ zd_s2 n g cm a b := zs_get hb hg
  have h2 := zt_decd (n := n) (g := g) (cm := cm) a (a + 1) (n - (a + 1))
  rw [show a + 1 + (n - (a + 1)) = n by omega] at h2
  exact Int32.le_trans h2 (Int32.le_trans h1 (zt_dec b a))
theorem zt_sound (S : Nat → Int32 → Prop) (hs : ∀ a b v, a < n → b < n → g a b = true → S b v → S a v) (h0 : ∀ j, j < n → S j (cm j)) : ∀ k, k ≤ n → ∀ j, j < n → S j (zd_s2 n g cm k j) := by
  intro k
  induction k with
  | zero => intro _; exact h0
  | succ k ih => exact fun hk => zs_sound S (by omega) (fun b v hb hg h => hs k b v (by omega) hb hg h) (ih (by omega)) n (Nat.le_refl n)
end
/-- the names after all rounds -/
theorem zp_nm {n : Nat} {g : Nat → Nat → Bool} {cm : Nat → Int32} (hn : n ≤ 8) (hg : ∀ a b, a < n → b < n → g a b = g b a) : ∀ r, r < n → (∃ x, x < n ∧ zd_s3 n g (zd_c0 cm n) n r = nI x ∧ zg_R n g r x = true) ∧ ∀ c, c < n → zg_R n g c r = true → zd_s3 n g (zd_c0 cm n) n r ≤ nI c := by
  have snd : ∀ k j, j < n → ∃ x, x < n ∧ zd_s3 n g (zd_c0 cm n) k j = nI x ∧ zg_R n g j x = true := by
    intro k
    induction k with
    | zero => intro j hj; exact ⟨j, hj, zp_c0 cm n j hj, zg_refl⟩
    | succ k ih =>
      exact zt_sound (fun j v => ∃ x, x < n ∧ v = nI x ∧ zg_R n g j x = true) (fun a b v ha hb hgab h => by
        obtain ⟨x, hx, e, hr⟩ := h
        exact ⟨x, hx, e, zg_trans ha hb hx (zg_edge ha hb hgab) hr⟩) ih n (Nat.le_refl n)
  have cmp : ∀ k r, r < n → ∀ c, c < n → zg_B n g c k r = true → zd_s3 n g (zd_c0 cm n) k r ≤ nI c := by
    intro k
    induction k with
    | zero =>
      intro r hr c hc h
      rw [(zg_B0 r).mp h]
      show zd_c0 cm n c ≤ nI c
      rw [zp_c0 cm n c hc]; exact Int32.le_rfl
    | succ k ih =>
      intro r hr c hc h
      rcases (zg_Bs k r).mp h with h1 | ⟨u, hu, h1, h2⟩
      · exact Int32.le_trans (zt_dec r n) (ih r hr c hc h1)
      · exact Int32.le_trans (zt_get hr hu (by rw [hg r u hr hu]; exact h2)) (ih u hu c hc h1)
  exact fun r hr => ⟨snd n r hr, fun c hc h => cmp n r hr c hc h⟩
theorem zp_lead {n : Nat} {g : Nat → Nat → Bool} {cm : Nat → Int32} (hn : n ≤ 8) (hg : ∀ a b, a < n → b < n → g a b = g b a) {c : Nat} (hc : c < n) : zd_s3 n g (zd_c0 cm n) n c = nI c ↔ zg_ld n g c = true := by
  obtain ⟨⟨x, hx, e, hr⟩, hm⟩ := zp_nm (cm := cm) hn hg c hc
  rw [zg_ld_iff]
  constructor
  · intro h d hd
    apply zp_nf
    intro z
    have h2 := hm d (by omega) z
    rw [h, nI_leI (by omega) (by omega)] at h2
    omega
  · intro h
    have h2 := hm c hc zg_refl
    rw [e, nI_leI (by omega) (by omega)] at h2
    by_cases hxc : x = c
    · rw [e, hxc]
    · exfalso
      have h3 := h x (by omega)
      rw [zg_symm hg hc hx hr] at h3
      exact absurd h3 (by decide)
theorem zp_memb {n : Nat} {g : Nat → Nat → Bool} {cm : Nat → Int32} (hn : n ≤ 8) (hg : ∀ a b, a < n → b < n → g a b = g b a) {c r : Nat} (hc : c < n) (hr : r < n) (hl : zg_ld n g c = true) : zd_s3 n g (zd_c0 cm n) n r = nI c ↔ zg_R n g c r = true := by
  obtain ⟨⟨x, hx, e, hrx⟩, hm⟩ := zp_nm (cm := cm) hn hg r hr
  rw [zg_ld_iff] at hl
  constructor
  · intro h
    rw [e, nI_eq (by omega) (by omega)] at h
    subst h
    exact zg_symm hg hr hc hrx
  · intro h
    have h2 := hm c hc h
    rw [e, nI_leI (by omega) (by omega)] at h2
    by_cases hxc : x = c
    · rw [e, hxc]
    · exfalso
      have h4 := hl x (by omega)
      rw [zg_symm hg hc hx (zg_trans hc hr hx h hrx)] at h4
      exact absurd h4 (by decide)
end
section
/- copies in order; the pure flood; the component's flood -/
def zd_ok (D : zd_DB) : Prop := ∀ i, 0 ≤ D.1 i ∧ 0 ≤ D.2.2 i
def zd_co (co : Nat → Int32) : Prop := ∀ i, ∃ c : Nat, c ≤ 7 ∧ co i = nI c
theorem zp_ok_st {D : zd_DB} {i : Nat} {s a b : Int32} (h : zd_ok D) (hs : 0 ≤ s) (hb : 0 ≤ b) : zd_ok (zd_st D i s a b) := by
  intro j
  show 0 ≤ upd D.1 i s j ∧ 0 ≤ upd D.2.2 i b j
  by_cases e : j = i
  · rw [e, pk_us, pk_us]; exact ⟨hs, hb⟩
  · rw [pk_un e, pk_un e]; exact h j
theorem zp_ls {fl co : Nat → Int32} {r : Nat} (hc : zd_co co) : ∀ k, k ≤ 8 → ∃ m, m < 8 ^ k ∧ zd_ls fl co r k = nI m := by
  intro k
  induction k with
  | zero => intro _; exact ⟨0, by decide, by rw [nI_0]; rfl⟩
  | succ k ih =>
    intro hk
    obtain ⟨m, hm, e⟩ := ih (by omega)
    have hp : 8 ^ (k + 1) = 8 ^ k * 8 := Nat.pow_succ 8 k
    by_cases h : fl (r * 8 + k) = 0
    · refine ⟨m, by omega, ?_⟩
      have e2 : zd_ls fl co r (k + 1) = zd_ls fl co r k := if_pos h
      rw [e2, e]
    · obtain ⟨c, hc7, ec⟩ := hc (r * 8 + k)
      have e2 : zd_ls fl co r (k + 1) = zd_ls fl co r k + (co (r * 8 + k) * nI (8 ^ k)) := (if_neg h).trans (by rw [zp_shm (by omega)])
      refine ⟨m + c * 8 ^ k, ?_, ?_⟩
      · have : c * 8 ^ k ≤ 7 * 8 ^ k := Nat.mul_le_mul_right _ hc7
        omega
      · rw [e2, e, ec, pk_mul, nI_add]
theorem zp_ok_og {n l L : Nat} {fl co : Nat → Int32} {D : zd_DB} {r : Nat} (h : zd_ok D) (hc : zd_co co) (hn : n ≤ 8) (hl : l ≤ 60) : zd_ok (zd_og n l L fl co D r) := by
  unfold zd_og
  by_cases e : nI l ≤ D.1 (r * 8 + r)
  · rw [if_pos e]; exact zp_ok_st h (nI_pos' (by omega)) Int32.le_rfl
  · rw [if_neg e]
    refine zp_ok_st h ?_ ?_
    · obtain ⟨j, hj, ej⟩ := nI_of (Int32.not_lt.mpr (h (r * 8 + r)).1)
      rw [ej, nI_leI (by omega) hj] at e
      rw [ej, nI_1]; exact nI_pos' (by omega)
    · obtain ⟨m, hm, em⟩ := zp_ls (fl := fl) (r := r) hc n hn
      rw [em]
      have : 8 ^ n ≤ 8 ^ 8 := Nat.pow_le_pow_right (by decide) hn
      exact nI_pos' (by omega)
theorem zp_ok_oa {n l L : Nat} {fl co : Nat → Int32} {c : Nat → Bool} {D : zd_DB} (h : zd_ok D) (hc : zd_co co) (hn : n ≤ 8) (hl : l ≤ 60) : ∀ k, zd_ok (zd_oa n l L fl co c D k) := by
  intro k
  induction k with
  | zero => exact h
  | succ k ih =>
    unfold zd_oa
    by_cases e : c k = true
    · rw [if_pos e]; exact zp_ok_og ih hc hn hl
    · rw [if_neg e]; exact ih
def zd_nD (L : Nat) (D : zd_DB) (i j : Nat) : Bool := zd_nw (nI L) (D.1 i) (D.2.1 i) (D.2.2 i) (D.1 j) (D.2.1 j) (D.2.2 j)
/-- the holder of a newest copy of o among the first k members -/
def zd_bs (L : Nat) (mem : Nat → Bool) (D : zd_DB) (o : Nat) : Nat → Option Nat
  | 0 => none
  | k + 1 => if mem k = true ∧ ¬ D.1 (k * 8 + o) = 0 then (zd_bs L mem D o k).elim (some k) (fun r => if zd_nD L D (k * 8 + o) (r * 8 + o) = true then some k else some r) else zd_bs L mem D o k
theorem zp_bs {L : Nat} {mem : Nat → Bool} {D : zd_DB} {o : Nat} : ∀ k r, zd_bs L mem D o k = some r → r < k := by
  intro k
  induction k with
  | zero => intro r h; exact absurd h (by intro z; cases z)
  | succ k ih =>
    intro r h
    unfold zd_bs at h
    by_cases e : mem k = true ∧ ¬ D.1 (k * 8 + o) = 0
    · rw [if_pos e] at h
      cases hb : zd_bs L mem D o k with
      | none =>
        rw [hb] at h
        have h2 : some k = some r := h
        cases h2; omega
      | some r0 =>
        rw [hb] at h
        have h2 : (if zd_nD L D (k * 8 + o) (r0 * 8 + o) = true then some k else some r0) = some r := h
        have h3 := ih r0 hb
        by_cases e2 : zd_nD L D (k * 8 + o) (r0 * 8 + o) = true
        · rw [if_pos e2] at h2; cases h2; omega
        · rw [if_neg e2] at h2; cases h2; omega
    · rw [if_neg e] at h
      have := ih r h
      omega
def zd_ex (o : Nat) : Option Nat → Int32
  | none => -1
  | some r => nI (r * 8 + o)
def zd_ey : Option Nat → Int32
  | none => -1
  | some r => nI r
/-- the origin's answer: the copies, and the cell to spread from -/
def zd_an (n l L : Nat) (fl co : Nat → Int32) (mem : Nat → Bool) (D : zd_DB) (o r : Nat) : zd_DB × Nat :=
  if mem o = true ∧ zd_nD L D (r * 8 + o) (o * 8 + o) = true then (zd_og n l L fl co (zd_st D (o * 8 + o) (D.1 (r * 8 + o)) (D.2.1 (r * 8 + o)) (D.2.2 (r * 8 + o))) o, o * 8 + o) else (D, r * 8 + o)
/-- spreading of a copy -/
def zd_sp (L : Nat) (mem : Nat → Bool) (o : Nat) (s a b : Int32) (D : zd_DB) : Nat → zd_DB
  | 0 => D
  | k + 1 => if mem k = true ∧ zd_nw (nI L) s a b ((zd_sp L mem o s a b D k).1 (k * 8 + o)) ((zd_sp L mem o s a b D k).2.1 (k * 8 + o)) ((zd_sp L mem o s a b D k).2.2 (k * 8 + o)) = true then zd_st (zd_sp L mem o s a b D k) (k * 8 + o) s a b else zd_sp L mem o s a b D k
theorem zp_sp {L : Nat} {mem : Nat → Bool} {o : Nat} {s a b : Int32} {D : zd_DB} {c : Nat} (h : D.1 c = s ∧ D.2.1 c = a ∧ D.2.2 c = b) : ∀ k, (zd_sp L mem o s a b D k).1 c = s ∧ (zd_sp L mem o s a b D k).2.1 c = a ∧ (zd_sp L mem o s a b D k).2.2 c = b := by
  intro k
  induction k with
  | zero => exact h
  | succ k ih =>
    unfold zd_sp
    by_cases e : mem k = true ∧ zd_nw (nI L) s a b ((zd_sp L mem o s a b D k).1 (k * 8 + o)) ((zd_sp L mem o s a b D k).2.1 (k * 8 + o)) ((zd_sp L mem o s a b D k).2.2 (k * 8 + o)) = true
    · rw [if_pos e]
      show upd (zd_sp L mem o s a b D k).1 (k * 8 + o) s c = s ∧ upd (zd_sp L mem o s a b D k).2.1 (k * 8 + o) a c = a ∧ upd (zd_sp L mem o s a b D k).2.2 (k * 8 + o) b c = b
      by_cases e2 : c = k * 8 + o
      · rw [e2, pk_us, pk_us, pk_us]; exact ⟨rfl, rfl, rfl⟩
      · rw [pk_un e2, pk_un e2, pk_un e2]; exact ih
    · rw [if_neg e]; exact ih
def zd_f2 (n l L : Nat) (fl co : Nat → Int32) (mem : Nat → Bool) (D : zd_DB) (o r : Nat) : zd_DB :=
  zd_sp L mem o ((zd_an n l L fl co mem D o r).1.1 (zd_an n l L fl co mem D o r).2) ((zd_an n l L fl co mem D o r).1.2.1 (zd_an n l L fl co mem D o r).2) ((zd_an n l L fl co mem D o r).1.2.2 (zd_an n l L fl co mem D o r).2) (zd_an n l L fl co mem D o r).1 n
def zd_f1 (n l L : Nat) (fl co : Nat → Int32) (mem : Nat → Bool) (D : zd_DB) (o : Nat) : zd_DB := (zd_bs L mem D o n).elim D (fun r => zd_f2 n l L fl co mem D o r)
def zd_fc (n l L : Nat) (fl co : Nat → Int32) (mem : Nat → Bool) (D : zd_DB) : Nat → zd_DB
  | 0 => D
  | o + 1 => zd_f1 n l L fl co mem (zd_fc n l L fl co mem D o) o
def zd_fd (n l L : Nat) (up fl co : Nat → Int32) (D : zd_DB) : Nat → zd_DB
  | 0 => D
  | c + 1 => if zg_ld n (zd_g up) c = true then zd_fc n l L fl co (zg_R n (zd_g up) c) (zd_fd n l L up fl co D c) n else zd_fd n l L up fl co D c
theorem zp_ok_sp {L : Nat} {mem : Nat → Bool} {o : Nat} {s a b : Int32} {D : zd_DB} (h : zd_ok D) (hs : 0 ≤ s) (hb : 0 ≤ b) : ∀ k, zd_ok (zd_sp L mem o s a b D k) := by
  intro k
  induction k with
  | zero => exact h
  | succ k ih =>
    unfold zd_sp
    by_cases e : mem k = true ∧ zd_nw (nI L) s a b ((zd_sp L mem o s a b D k).1 (k * 8 + o)) ((zd_sp L mem o s a b D k).2.1 (k * 8 + o)) ((zd_sp L mem o s a b D k).2.2 (k * 8 + o)) = true
    · rw [if_pos e]; exact zp_ok_st ih hs hb
    · rw [if_neg e]; exact ih
theorem zp_ok_an {n l L : Nat} {fl co : Nat → Int32} {mem : Nat → Bool} {D : zd_DB} {o r : Nat} (h : zd_ok D) (hc : zd_co co) (hn : n ≤ 8) (hl : l ≤ 60) : zd_ok (zd_an n l L fl co mem D o r).1 := by
  unfold zd_an
  by_cases e : mem o = true ∧ zd_nD L D (r * 8 + o) (o * 8 + o) = true
  · rw [if_pos e]; exact zp_ok_og (zp_ok_st h (h _).1 (h _).2) hc hn hl
  · rw [if_neg e]; exact h
theorem zp_ok_f1 {n l L : Nat} {fl co : Nat → Int32} {mem : Nat → Bool} {D : zd_DB} {o : Nat} (h : zd_ok D) (hc : zd_co co) (hn : n ≤ 8) (hl : l ≤ 60) : zd_ok (zd_f1 n l L fl co mem D o) := by
  unfold zd_f1
  cases zd_bs L mem D o n with
  | none => exact h
  | some r =>
    have h2 := zp_ok_an (L := L) (fl := fl) (mem := mem) (o := o) (r := r) h hc hn hl
    exact zp_ok_sp h2 (h2 _).1 (h2 _).2 n
theorem zp_ok_fc {n l L : Nat} {fl co : Nat → Int32} {mem : Nat → Bool} {D : zd_DB} (h : zd_ok D) (hc : zd_co co) (hn : n ≤ 8) (hl : l ≤ 60) : ∀ k, zd_ok (zd_fc n l L fl co mem D k) := by
  intro k
  induction k with
  | zero => exact h
  | succ k ih => exact zp_ok_f1 ih hc hn hl
theorem zp_ok_fd {n l L : Nat} {up fl co : Nat → Int32} {D : zd_DB} (h : zd_ok D) (hc : zd_co co) (hn : n ≤ 8) (hl : l ≤ 60) : ∀ k, zd_ok (zd_fd n l L up fl co D k) := by
  intro k
  induction k with
  | zero => exact h
  | succ k ih =>
    unfold zd_fd
    by_cases e : zg_ld n (zd_g up) k = true
    · rw [if_pos e]; exact zp_ok_fc ih hc hn hl n
    · rw [if_neg e]; exact ih
def zd_sn (n : Nat) (up : Nat → Int32) : Nat → Int32
  | 0 => 0
  | k + 1 => if bt (zd_sn n up k) k = true then zd_sn n up k else zd_sn n up k ||| zd_cp n up k n
theorem zp_gs {n : Nat} {up : Nat → Int32} (hn : n ≤ 8) (hs : zd_sy up) : ∀ a b, a < n → b < n → zd_g up a b = zd_g up b a := by
  intro a b ha hb
  unfold zd_g
  rw [hs a b (by omega) (by omega)]
theorem zp_sn {n : Nat} {up : Nat → Int32} (hn : n ≤ 8) : ∀ k, k ≤ n → ∀ j, j < n → (bt (zd_sn n up k) j = true ↔ ∃ c, c < k ∧ zg_R n (zd_g up) c j = true) := by
  intro k
  induction k with
  | zero =>
    intro _ j hj
    constructor
    · intro h
      have h2 : bt 0 j = true := h
      rw [b_0] at h2
      exact absurd h2 (by decide)
    · intro h; obtain ⟨c, hc, _⟩ := h; omega
  | succ k ih =>
    intro hk j hj
    have ihj := ih (by omega) j hj
    have ihk := ih (by omega) k (by omega)
    by_cases e : bt (zd_sn n up k) k = true
    · have e2 : zd_sn n up (k + 1) = zd_sn n up k := if_pos e
      rw [e2, ihj]
      constructor
      · intro h; obtain ⟨c, hc, h⟩ := h; exact ⟨c, by omega, h⟩
      · intro h
        obtain ⟨c, hc, h⟩ := h
        by_cases ec : c = k
        · subst ec
          obtain ⟨d, hd, h3⟩ := ihk.mp e
          exact ⟨d, hd, zg_trans (by omega) (by omega) hj h3 h⟩
        · exact ⟨c, by omega, h⟩
    · have e2 : zd_sn n up (k + 1) = zd_sn n up k ||| zd_cp n up k n := if_neg e
      rw [e2, b_or, Bool.or_eq_true, ihj, zp_cp hn (by omega) j hj]
      constructor
      · intro h
        rcases h with ⟨c, hc, h⟩ | h
        · exact ⟨c, by omega, h⟩
        · exact ⟨k, by omega, h⟩
      · intro h
        obtain ⟨c, hc, h⟩ := h
        by_cases ec : c = k
        · subst ec; exact Or.inr h
        · exact Or.inl ⟨c, by omega, h⟩
theorem zp_snld {n : Nat} {up : Nat → Int32} (hn : n ≤ 8) {k : Nat} (hk : k < n) : bt (zd_sn n up k) k = !zg_ld n (zd_g up) k := by
  have h := zp_sn (up := up) hn k (by omega) k hk
  by_cases e : zg_ld n (zd_g up) k = true
  · rw [e]
    apply zp_nf
    intro z
    obtain ⟨c, hc, h2⟩ := h.mp z
    rw [(zg_ld_iff.mp e) c hc] at h2
    exact absurd h2 (by decide)
  · rw [zp_nf e]
    apply h.mpr
    apply Classical.byContradiction
    intro hno
    apply e
    rw [zg_ld_iff]
    intro c hc
    exact zp_nf (fun z => hno ⟨c, hc, z⟩)
theorem zp_m1 : (-1 : Int32) < 0 := by decide
theorem zp_m1' : ¬ (0 : Int32) ≤ -1 := by decide
section
variable {n l L s : Nat} {D : zd_DB} {up fl co us sd rc og ps pa pb rm ds se : Nat → Int32}
theorem zx_upN {post : Int32 → Prop} {r : Nat} (hn : n ≤ 8) (hr : r < 8) (hp : post (zd_un up r n)) : wpX_upNeighbours post (nI n, nI l, nI L, nI s, D.1, D.2.1, D.2.2, up, fl, co, us, sd, rc, og, ps, pa, pb, rm, ds, se) (nI r) := by
  refine zp_l0 (fun m i => wX_upNeighbours_4 post (nI r) (nI n) (nI l) (nI L) (nI s) D.1 D.2.1 D.2.2 up fl co us sd rc og ps pa pb rm ds se m (zd_un up r i) (nI i)) n ?_ ?_
  · intro m
    exact br_t (nI_le (Nat.le_refl n) (by omega)) hp
  · intro m i hi h
    refine br_f (nI_ge hi (by omega)) ?_
    refine zx_cell r i ?_
    refine And.intro (vp_in_nI (by omega) (by omega)) ?_
    by_cases hf : up (r * 8 + i) = 0
    · have e : zd_un up r (i + 1) = zd_un up r i := if_pos hf
      rw [e] at h
      exact zb_t (by omega) hf (nm_r (nI_1 i) h)
    · have e : zd_un up r (i + 1) = zd_un up r i ||| ((1 : Int32) <<< (nI i &&& 31)) := if_neg hf
      rw [e] at h
      exact zb_f (by omega) hf (nm_e (nm_r (nI_1 i) h))
theorem zx_component {post : Int32 → Prop} {c : Nat} (hn : n ≤ 8) (hp : post (zd_cp n up c n)) : wpX_component post (nI n, nI l, nI L, nI s, D.1, D.2.1, D.2.2, up, fl, co, us, sd, rc, og, ps, pa, pb, rm, ds, se) (nI c) := by
  unfold wpX_component
  refine nm_e ?_
  refine zp_l0 (fun m k => wX_component_6 post (nI n) (nI l) (nI L) (nI s) D.1 D.2.1 D.2.2 up fl co us sd rc og ps pa pb rm ds se m (zd_cp n up c k) (nI k)) n ?_ ?_
  · intro m
    exact br_t (nI_le (Nat.le_refl n) (by omega)) hp
  · intro m k hk h
    refine br_f (nI_ge hk (by omega)) ?_
    refine zp_l0 (fun d u => wX_component_17 post (wX_component_6 post (nI n) (nI l) (nI L) (nI s) D.1 D.2.1 D.2.2 up fl co us sd rc og ps pa pb rm ds se m) (nI k) (nI n) (nI l) (nI L) (nI s) D.1 D.2.1 D.2.2 up fl co us sd rc og ps pa pb rm ds se d (zd_cu n up (zd_cp n up c k) u) (nI u)) n ?_ ?_
    · intro d
      refine br_t (nI_le (Nat.le_refl n) (by omega)) ?_
      exact nm_r (nI_1 k) h
    · intro d u hu g
      refine br_f (nI_ge hu (by omega)) ?_
      refine zx_contains (by omega) ?_
      refine zb_b (fun e => ?_) (fun e => ?_)
      · have e2 : zd_cu n up (zd_cp n up c k) (u + 1) = zd_cu n up (zd_cp n up c k) u := if_neg (by rw [e]; decide)
        rw [e2] at g
        exact nm_r (nI_1 u) g
      · have e2 : zd_cu n up (zd_cp n up c k) (u + 1) = zd_cu n up (zd_cp n up c k) u ||| zd_un up u n := if_pos e
        rw [e2] at g
        refine zx_upN hn (by omega) ?_
        exact nm_e (nm_r (nI_1 u) g)
theorem zx_newest {post : Int32 → Prop} {x : Int32} {mem : Nat → Bool} {o : Nat} (hn : n ≤ 8) (ho : o < 8) (hm : ∀ i, i < n → bt x i = mem i) (hp : post (zd_ex o (zd_bs L mem D o n))) : wpX_newestCell post (nI n, nI l, nI L, nI s, D.1, D.2.1, D.2.2, up, fl, co, us, sd, rc, og, ps, pa, pb, rm, ds, se) x (nI o) := by
  refine zp_l0 (fun m i => wX_newestCell_5 post x (nI o) (nI n) (nI l) (nI L) (nI s) D.1 D.2.1 D.2.2 up fl co us sd rc og ps pa pb rm ds se m (zd_ex o (zd_bs L mem D o i)) (nI i)) n ?_ ?_
  · intro m
    exact br_t (nI_le (Nat.le_refl n) (by omega)) hp
  · intro m i hi h
    refine br_f (nI_ge hi (by omega)) ?_
    refine zx_cell i o ?_
    refine zx_contains (by omega) ?_
    rw [hm i hi]
    have hv : vp_in (nI (i * 8 + o)) 64 := vp_in_nI (by omega) (by omega)
    have c31 : i * 8 + o < 2 ^ 31 := by omega
    refine zb_b (fun e => ?_) (fun e => ?_)
    · have e2 : zd_bs L mem D o (i + 1) = zd_bs L mem D o i := if_neg (fun z => absurd z.1 (by rw [e]; decide))
      rw [e2] at h
      exact nm_r (nI_1 i) h
    refine And.intro hv ?_
    by_cases h1 : D.1 (i * 8 + o) = 0
    · have e2 : zd_bs L mem D o (i + 1) = zd_bs L mem D o i := if_neg (fun z => z.2 h1)
      rw [e2] at h
      exact zb_t c31 h1 (nm_r (nI_1 i) h)
    refine zb_f c31 h1 ?_
    have e2 : zd_bs L mem D o (i + 1) = (zd_bs L mem D o i).elim (some i) (fun r => if zd_nD L D (i * 8 + o) (r * 8 + o) = true then some i else some r) := if_pos ⟨e, h1⟩
    rw [e2] at h
    cases hb : zd_bs L mem D o i with
    | none =>
      rw [hb] at h
      exact br_t zp_m1 (nm_r (nI_1 i) h)
    | some r =>
      rw [hb] at h
      have hr := zp_bs i r hb
      refine br_f (nI_pos (by omega)) ?_
      refine And.intro hv (And.intro hv (And.intro hv ?_))
      rw [nI_clamp c31]
      refine zx_newer (by omega) ?_
      have h2 : wX_newestCell_5 post x (nI o) (nI n) (nI l) (nI L) (nI s) D.1 D.2.1 D.2.2 up fl co us sd rc og ps pa pb rm ds se m (zd_ex o (if zd_nD L D (i * 8 + o) (r * 8 + o) = true then some i else some r)) (nI (i + 1)) := h
      refine zb_b (fun e3 => ?_) (fun e3 => ?_)
      · rw [if_neg (by unfold zd_nD; rw [e3]; decide)] at h2
        exact nm_r (nI_1 i) h2
      · rw [if_pos (show zd_nD L D (i * 8 + o) (r * 8 + o) = true from e3)] at h2
        exact nm_r (nI_1 i) h2
theorem zx_spread {post : SX → Prop} {x : Int32} {mem : Nat → Bool} {o c : Nat} (hn : n ≤ 8) (ho : o < 8) (hc : c < 64) (hm : ∀ i, i < n → bt x i = mem i) (hp : post (nI n, nI l, nI L, nI s, (zd_sp L mem o (D.1 c) (D.2.1 c) (D.2.2 c) D n).1, (zd_sp L mem o (D.1 c) (D.2.1 c) (D.2.2 c) D n).2.1, (zd_sp L mem o (D.1 c) (D.2.1 c) (D.2.2 c) D n).2.2, up, fl, co, us, sd, rc, og, ps, pa, pb, rm, ds, se)) : wpX_spread post (nI n, nI l, nI L, nI s, D.1, D.2.1, D.2.2, up, fl, co, us, sd, rc, og, ps, pa, pb, rm, ds, se) x (nI o) (nI c) := by
  refine zp_l0 (fun m i => wX_spread_3 post x (nI o) (nI c) m (nI i) (nI n) (nI l) (nI L) (nI s) ((zd_sp L mem o (D.1 c) (D.2.1 c) (D.2.2 c) D i).1) ((zd_sp L mem o (D.1 c) (D.2.1 c) (D.2.2 c) D i).2.1) ((zd_sp L mem o (D.1 c) (D.2.1 c) (D.2.2 c) D i).2.2) up fl co us sd rc og ps pa pb rm ds se) n ?_ ?_
  · intro m
    exact br_t (nI_le (Nat.le_refl n) (by omega)) hp
  · intro m i hi h
    refine br_f (nI_ge hi (by omega)) ?_
    refine zx_cell i o ?_
    refine zx_contains (by omega) ?_
    rw [hm i hi]
    obtain ⟨s1, s2, s3⟩ := zp_sp (L := L) (mem := mem) (o := o) (s := D.1 c) (a := D.2.1 c) (b := D.2.2 c) (D := D) (c := c) ⟨rfl, rfl, rfl⟩ i
    have hv : vp_in (nI c) 64 := vp_in_nI hc (by omega)
    have c31 : c < 2 ^ 31 := by omega
    refine zb_b (fun e => ?_) (fun e => ?_)
    · have e2 : zd_sp L mem o (D.1 c) (D.2.1 c) (D.2.2 c) D (i + 1) = zd_sp L mem o (D.1 c) (D.2.1 c) (D.2.2 c) D i := if_neg (fun z => absurd z.1 (by rw [e]; decide))
      rw [e2] at h
      exact nm_r (nI_1 i) h
    refine And.intro hv (And.intro hv (And.intro hv ?_))
    rw [nI_clamp c31, s1, s2, s3]
    refine zx_newer (by omega) ?_
    refine zb_b (fun e3 => ?_) (fun e3 => ?_)
    · have e2 : zd_sp L mem o (D.1 c) (D.2.1 c) (D.2.2 c) D (i + 1) = zd_sp L mem o (D.1 c) (D.2.1 c) (D.2.2 c) D i := if_neg (fun z => absurd z.2 (by rw [e3]; decide))
      rw [e2] at h
      exact nm_r (nI_1 i) h
    · have e2 : zd_sp L mem o (D.1 c) (D.2.1 c) (D.2.2 c) D (i + 1) = zd_st (zd_sp L mem o (D.1 c) (D.2.1 c) (D.2.2 c) D i) (i * 8 + o) (D.1 c) (D.2.1 c) (D.2.2 c) := if_pos ⟨e, e3⟩
      rw [e2] at h
      refine And.intro hv (And.intro hv (And.intro hv ?_))
      refine zx_store (by omega) ?_
      exact nm_r (nI_1 i) h
theorem zx_floodC {post : SX → Prop} {x : Int32} {mem : Nat → Bool} (hn : n ≤ 8) (hm : ∀ i, i < n → bt x i = mem i) (hp : post (nI n, nI l, nI L, nI s, (zd_fc n l L fl co mem D n).1, (zd_fc n l L fl co mem D n).2.1, (zd_fc n l L fl co mem D n).2.2, up, fl, co, us, sd, rc, og, ps, pa, pb, rm, ds, se)) : wpX_floodComponent post (nI n, nI l, nI L, nI s, D.1, D.2.1, D.2.2, up, fl, co, us, sd, rc, og, ps, pa, pb, rm, ds, se) x := by
  refine zp_l0 (fun m i => wX_floodComponent_2 post x m (nI i) (nI n) (nI l) (nI L) (nI s) ((zd_fc n l L fl co mem D i).1) ((zd_fc n l L fl co mem D i).2.1) ((zd_fc n l L fl co mem D i).2.2) up fl co us sd rc og ps pa pb rm ds se) n ?_ ?_
  · intro m
    exact br_t (nI_le (Nat.le_refl n) (by omega)) hp
  · intro m i hi h
    have e0 : zd_fc n l L fl co mem D (i + 1) = zd_f1 n l L fl co mem (zd_fc n l L fl co mem D i) i := rfl
    rw [e0] at h
    generalize zd_fc n l L fl co mem D i = E at *
    refine br_f (nI_ge hi (by omega)) ?_
    refine zx_newest hn (by omega) hm ?_
    unfold zd_f1 at h
    cases hb : zd_bs L mem E i n with
    | none =>
      rw [hb] at h
      exact br_t zp_m1 (nm_r (nI_1 i) h)
    | some r =>
      rw [hb] at h
      have hr := zp_bs n r hb
      rw [show zd_ex i (some r) = nI (r * 8 + i) from rfl]
      refine br_f (nI_pos (by omega)) ?_
      refine zx_contains (by omega) ?_
      rw [hm i hi]
      have h2 : wX_floodComponent_2 post x m (nI (i + 1)) (nI n) (nI l) (nI L) (nI s) ((zd_f2 n l L fl co mem E i r).1) ((zd_f2 n l L fl co mem E i r).2.1) ((zd_f2 n l L fl co mem E i r).2.2) up fl co us sd rc og ps pa pb rm ds se := h
      unfold zd_f2 at h2
      by_cases ea : mem i = true ∧ zd_nD L E (r * 8 + i) (i * 8 + i) = true
      · have e3 : zd_an n l L fl co mem E i r = (zd_og n l L fl co (zd_st E (i * 8 + i) (E.1 (r * 8 + i)) (E.2.1 (r * 8 + i)) (E.2.2 (r * 8 + i))) i, i * 8 + i) := if_pos ea
        rw [e3] at h2
        refine zb_b1 ea.1 ?_
        unfold wpX_answerOfOrigin
        refine zx_cell i i ?_
        have hv : vp_in (nI (r * 8 + i)) 64 := vp_in_nI (by omega) (by omega)
        refine And.intro hv (And.intro hv (And.intro hv ?_))
        have hc : (nI (r * 8 + i)).toNatClampNeg = r * 8 + i := nI_clamp (by omega)
        rw [hc]
        refine zx_newer (by omega) ?_
        refine zb_b1 ea.2 ?_
        refine And.intro hv (And.intro hv (And.intro hv ?_))
        refine zx_store (by omega) ?_
        refine zx_orig hn (by omega) ?_
        unfold wX_floodComponent_37
        refine zx_spread hn (by omega) (by omega) hm ?_
        exact nm_r (nI_1 i) h2
      · have e3 : zd_an n l L fl co mem E i r = (E, r * 8 + i) := if_neg ea
        rw [e3] at h2
        have fin : wX_floodComponent_37 post (wX_floodComponent_2 post x m) x (nI i) (nI (r * 8 + i)) (nI n) (nI l) (nI L) (nI s) E.1 E.2.1 E.2.2 up fl co us sd rc og ps pa pb rm ds se := by
          unfold wX_floodComponent_37
          refine zx_spread hn (by omega) (by omega) hm ?_
          exact nm_r (nI_1 i) h2
        refine zb_b (fun _ => fin) (fun e1 => ?_)
        unfold wpX_answerOfOrigin
        refine zx_cell i i ?_
        have hv : vp_in (nI (r * 8 + i)) 64 := vp_in_nI (by omega) (by omega)
        refine And.intro hv (And.intro hv (And.intro hv ?_))
        have hc : (nI (r * 8 + i)).toNatClampNeg = r * 8 + i := nI_clamp (by omega)
        rw [hc]
        refine zx_newer (by omega) ?_
        refine zb_b0 (zp_nf (fun z => ea ⟨e1, z⟩)) ?_
        exact fin
theorem zx_flood {post : SX → Prop} (hn : n ≤ 8) (hp : post (nI n, nI l, nI L, nI s, (zd_fd n l L up fl co D n).1, (zd_fd n l L up fl co D n).2.1, (zd_fd n l L up fl co D n).2.2, up, fl, co, us, sd, rc, og, ps, pa, pb, rm, ds, se)) : wpX_flood post (nI n, nI l, nI L, nI s, D.1, D.2.1, D.2.2, up, fl, co, us, sd, rc, og, ps, pa, pb, rm, ds, se) := by
  refine zp_l0 (fun m i => wX_flood_4 post m (zd_sn n up i) (nI i) (nI n) (nI l) (nI L) (nI s) ((zd_fd n l L up fl co D i).1) ((zd_fd n l L up fl co D i).2.1) ((zd_fd n l L up fl co D i).2.2) up fl co us sd rc og ps pa pb rm ds se) n ?_ ?_
  · intro m
    exact br_t (nI_le (Nat.le_refl n) (by omega)) hp
  · intro m i hi h
    refine br_f (nI_ge hi (by omega)) ?_
    refine zx_contains (by omega) ?_
    have hs := zp_snld (up := up) hn hi
    refine zb_b (fun e => ?_) (fun e => ?_)
    · have e2 : zd_sn n up (i + 1) = zd_sn n up i ||| zd_cp n up i n := if_neg (by rw [e]; decide)
      rw [e] at hs
      have hl : zg_ld n (zd_g up) i = true := by
        cases hz : zg_ld n (zd_g up) i with
        | true => rfl
        | false => rw [hz] at hs; exact absurd hs (by decide)
      have e3 : zd_fd n l L up fl co D (i + 1) = zd_fc n l L fl co (zg_R n (zd_g up) i) (zd_fd n l L up fl co D i) n := if_pos hl
      rw [e2, e3] at h
      refine zx_component hn ?_
      refine nm_e ?_
      refine zx_floodC (mem := zg_R n (zd_g up) i) hn (zp_cp hn hi) ?_
      exact nm_r (nI_1 i) h
    · have e2 : zd_sn n up (i + 1) = zd_sn n up i := if_pos e
      rw [e] at hs
      have e3 : zd_fd n l L up fl co D (i + 1) = zd_fd n l L up fl co D i := if_neg (fun z => by rw [z] at hs; exact absurd hs (by decide))
      rw [e2, e3] at h
      exact nm_r (nI_1 i) h
end
end
section
/- the reference's flood -/
section
variable {n l L s : Nat} {D : zd_DB} {up fl co us sd rc og ps pa pb mk cm wk : Nat → Int32}
theorem zy_names {post : SY → Prop} (hn : n ≤ 8) (hp : post (nI n, nI l, nI L, nI s, zd_sf up fl, co, D.1, D.2.1, D.2.2, us, zd_pk sd rc og ps pa pb, mk, zd_s2 n (zd_g up) cm n, wk)) : wpY_spreadNames post (nI n, nI l, nI L, nI s, zd_sf up fl, co, D.1, D.2.1, D.2.2, us, zd_pk sd rc og ps pa pb, mk, cm, wk) := by
  refine zp_l0 (fun m a => wY_spreadNames_2 post (nI n) (nI l) (nI L) (nI s) m (nI a) (zd_sf up fl) co D.1 D.2.1 D.2.2 us (zd_pk sd rc og ps pa pb) mk (zd_s2 n (zd_g up) cm a) wk) n ?_ ?_
  · intro m
    exact br_t (nI_le (Nat.le_refl n) (by omega)) hp
  · intro m a ha h
    refine br_f (nI_ge ha (by omega)) ?_
    refine zp_l0 (fun k b => wY_spreadNames_12 post (wY_spreadNames_2 post (nI n) (nI l) (nI L) (nI s) m) (nI a) (nI n) (nI l) (nI L) (nI s) k (nI b) (zd_sf up fl) co D.1 D.2.1 D.2.2 us (zd_pk sd rc og ps pa pb) mk (zd_s1 (zd_g up) a (zd_s2 n (zd_g up) cm a) b) wk) n ?_ ?_
    · intro k
      refine br_t (nI_le (Nat.le_refl n) (by omega)) ?_
      exact nm_r (nI_1 a) h
    · intro k b hb g
      have hva : vp_in (nI a) 8 := vp_in_nI (by omega) (by omega)
      have hvb : vp_in (nI b) 8 := vp_in_nI (by omega) (by omega)
      have ca : (nI a).toNatClampNeg = a := nI_clamp (by omega)
      have cb : (nI b).toNatClampNeg = b := nI_clamp (by omega)
      refine br_f (nI_ge hb (by omega)) ?_
      rw [zp_cell]
      refine And.intro (vp_in_nI (by omega) (by omega)) ?_
      by_cases hu : up (a * 8 + b) = 0
      · have e2 : zd_s1 (zd_g up) a (zd_s2 n (zd_g up) cm a) (b + 1) = zd_s1 (zd_g up) a (zd_s2 n (zd_g up) cm a) b := if_neg (fun z => (of_decide_eq_true z.1) hu)
        rw [e2] at g
        exact zb_t (by omega) (zp_sf0.mpr hu) (nm_r (nI_1 b) g)
      refine zb_f (by omega) (fun z => hu (zp_sf0.mp z)) ?_
      rw [ca, cb]
      refine And.intro hvb (And.intro hva ?_)
      by_cases hle : zd_s1 (zd_g up) a (zd_s2 n (zd_g up) cm a) b a ≤ zd_s1 (zd_g up) a (zd_s2 n (zd_g up) cm a) b b
      · have e2 : zd_s1 (zd_g up) a (zd_s2 n (zd_g up) cm a) (b + 1) = zd_s1 (zd_g up) a (zd_s2 n (zd_g up) cm a) b := if_neg (fun z => z.2 hle)
        rw [e2] at g
        exact br_t hle (nm_r (nI_1 b) g)
      · have e2 : zd_s1 (zd_g up) a (zd_s2 n (zd_g up) cm a) (b + 1) = upd (zd_s1 (zd_g up) a (zd_s2 n (zd_g up) cm a) b) a (zd_s1 (zd_g up) a (zd_s2 n (zd_g up) cm a) b b) := if_pos ⟨decide_eq_true hu, hle⟩
        rw [e2] at g
        refine br_f hle (And.intro hvb (And.intro hva ?_))
        exact nm_e (nm_r (nI_1 b) g)
theorem zy_spread {post : SY → Prop} {c o : Nat} {s0 a0 b0 : Int32} {mem : Nat → Bool} (hn : n ≤ 8) (ho : o < 8) (hm : ∀ i, i < n → (cm i = nI c ↔ mem i = true)) (hp : post (nI n, nI l, nI L, nI s, zd_sf up fl, co, (zd_sp L mem o s0 a0 b0 D n).1, (zd_sp L mem o s0 a0 b0 D n).2.1, (zd_sp L mem o s0 a0 b0 D n).2.2, us, zd_pk sd rc og ps pa pb, mk, cm, wk)) : ∃ m, wY_floodOne_162 post (nI c) (nI o) s0 a0 b0 m 0 (nI n) (nI l) (nI L) (nI s) (zd_sf up fl) co D.1 D.2.1 D.2.2 us (zd_pk sd rc og ps pa pb) mk cm wk := by
  refine zp_l0 (fun m i => wY_floodOne_162 post (nI c) (nI o) s0 a0 b0 m (nI i) (nI n) (nI l) (nI L) (nI s) (zd_sf up fl) co ((zd_sp L mem o s0 a0 b0 D i).1) ((zd_sp L mem o s0 a0 b0 D i).2.1) ((zd_sp L mem o s0 a0 b0 D i).2.2) us (zd_pk sd rc og ps pa pb) mk cm wk) n ?_ ?_
  · intro m
    exact br_t (nI_le (Nat.le_refl n) (by omega)) hp
  · intro m i hi h
    refine br_f (nI_ge hi (by omega)) ?_
    refine nm_r (zp_cell i o) ?_
    refine And.intro (vp_in_nI (by omega) (by omega)) ?_
    have hv : vp_in (nI (i * 8 + o)) 64 := vp_in_nI (by omega) (by omega)
    by_cases e : mem i = true
    · refine zb_t (by omega) ((hm i hi).mpr e) ?_
      refine And.intro hv (And.intro hv (And.intro hv ?_))
      rw [nI_clamp (n := i * 8 + o) (by omega)]
      refine zy_newer ?_
      refine zb_b (fun e3 => ?_) (fun e3 => ?_)
      · have e2 : zd_sp L mem o s0 a0 b0 D (i + 1) = zd_sp L mem o s0 a0 b0 D i := if_neg (fun z => absurd z.2 (by rw [e3]; decide))
        rw [e2] at h
        exact nm_r (nI_1 i) h
      · have e2 : zd_sp L mem o s0 a0 b0 D (i + 1) = zd_st (zd_sp L mem o s0 a0 b0 D i) (i * 8 + o) s0 a0 b0 := if_pos ⟨e, e3⟩
        rw [e2] at h
        refine zy_store (by omega) (by omega) ?_
        exact nm_r (nI_1 i) h
    · refine zb_f (by omega) (fun z => e ((hm i hi).mp z)) ?_
      have e2 : zd_sp L mem o s0 a0 b0 D (i + 1) = zd_sp L mem o s0 a0 b0 D i := if_neg (fun z => e z.1)
      rw [e2] at h
      exact nm_r (nI_1 i) h
theorem zy_132 {post : SY → Prop} {c o d : Nat} {mem : Nat → Bool} (hn : n ≤ 8) (ho : o < 8) (hd : d < 64) (hm : ∀ i, i < n → (cm i = nI c ↔ mem i = true)) (hp : post (nI n, nI l, nI L, nI s, zd_sf up fl, co, (zd_sp L mem o (D.1 d) (D.2.1 d) (D.2.2 d) D n).1, (zd_sp L mem o (D.1 d) (D.2.1 d) (D.2.2 d) D n).2.1, (zd_sp L mem o (D.1 d) (D.2.1 d) (D.2.2 d) D n).2.2, us, zd_pk sd rc og ps pa pb, mk, cm, wk)) : wY_floodOne_132 post (nI c) (nI o) (nI d) (nI n) (nI l) (nI L) (nI s) (zd_sf up fl) co D.1 D.2.1 D.2.2 us (zd_pk sd rc og ps pa pb) mk cm wk := by
  have hv : vp_in (nI d) 64 := vp_in_nI hd (by omega)
  unfold wY_floodOne_132
  refine And.intro hv ?_
  refine nm_r (zp_rd (by omega)) ?_
  refine And.intro hv ?_
  refine nm_r (zp_rd (by omega)) ?_
  refine And.intro hv ?_
  refine nm_r (zp_rd (by omega)) ?_
  exact zy_spread hn ho hm hp
theorem zy_floodOne {post : SY → Prop} {c o : Nat} {mem : Nat → Bool} (hl : zd_lk up fl) (hk : zd_ok D) (hn : n ≤ 8) (ho : o < n) (hm : ∀ i, i < n → (cm i = nI c ↔ mem i = true)) (hp : post (nI n, nI l, nI L, nI s, zd_sf up fl, co, (zd_f1 n l L fl co mem D o).1, (zd_f1 n l L fl co mem D o).2.1, (zd_f1 n l L fl co mem D o).2.2, us, zd_pk sd rc og ps pa pb, mk, cm, wk)) : wpY_floodOne post (nI n, nI l, nI L, nI s, zd_sf up fl, co, D.1, D.2.1, D.2.2, us, zd_pk sd rc og ps pa pb, mk, cm, wk) (nI c) (nI o) := by
  refine zp_l0 (fun m i => wY_floodOne_5 post (nI c) (nI o) (nI n) (nI l) (nI L) (nI s) (zd_sf up fl) co D.1 D.2.1 D.2.2 us (zd_pk sd rc og ps pa pb) mk cm wk m (zd_ey (zd_bs L mem D o i)) (nI i)) n ?_ ?_
  · intro m
    refine br_t (nI_le (Nat.le_refl n) (by omega)) ?_
    unfold zd_f1 at hp
    cases hb : zd_bs L mem D o n with
    | none =>
      rw [hb] at hp
      exact br_f zp_m1' hp
    | some r =>
      rw [hb] at hp
      have hr := zp_bs n r hb
      have h2 : post (nI n, nI l, nI L, nI s, zd_sf up fl, co, (zd_f2 n l L fl co mem D o r).1, (zd_f2 n l L fl co mem D o r).2.1, (zd_f2 n l L fl co mem D o r).2.2, us, zd_pk sd rc og ps pa pb, mk, cm, wk) := hp
      unfold zd_f2 at h2
      rw [show zd_ey (some r) = nI r from rfl]
      refine br_t (nI_pos' (by omega)) ?_
      refine nm_r (zp_cell r o) ?_
      refine And.intro (vp_in_nI (by omega) (by omega)) ?_
      by_cases ea : mem o = true ∧ zd_nD L D (r * 8 + o) (o * 8 + o) = true
      · have e3 : zd_an n l L fl co mem D o r = (zd_og n l L fl co (zd_st D (o * 8 + o) (D.1 (r * 8 + o)) (D.2.1 (r * 8 + o)) (D.2.2 (r * 8 + o))) o, o * 8 + o) := if_pos ea
        rw [e3] at h2
        refine zb_t (by omega) ((hm o ho).mpr ea.1) ?_
        refine zy_beats (by omega) (by omega) (by omega) ?_
        refine zb_b1 ea.2 ?_
        have hv : vp_in (nI (r * 8 + o)) 64 := vp_in_nI (by omega) (by omega)
        refine And.intro hv (And.intro hv (And.intro hv ?_))
        rw [nI_clamp (n := r * 8 + o) (by omega)]
        refine zy_receive hl.1 hn (by omega) (by omega) ?_
        rw [if_pos rfl]
        refine nm_r (zp_cell o o) ?_
        exact zy_132 hn (by omega) (by omega) hm h2
      · have e3 : zd_an n l L fl co mem D o r = (D, r * 8 + o) := if_neg ea
        rw [e3] at h2
        have fin : wY_floodOne_132 post (nI c) (nI o) (nI (r * 8 + o)) (nI n) (nI l) (nI L) (nI s) (zd_sf up fl) co D.1 D.2.1 D.2.2 us (zd_pk sd rc og ps pa pb) mk cm wk := zy_132 hn (by omega) (by omega) hm h2
        by_cases e1 : mem o = true
        · refine zb_t (by omega) ((hm o ho).mpr e1) ?_
          refine zy_beats (by omega) (by omega) (by omega) ?_
          exact zb_b0 (zp_nf (fun z => ea ⟨e1, z⟩)) fin
        · exact zb_f (by omega) (fun z => e1 ((hm o ho).mp z)) fin
  · intro m i hi h
    refine br_f (nI_ge hi (by omega)) ?_
    refine And.intro (vp_in_nI (by omega) (by omega)) ?_
    by_cases e : mem i = true
    rotate_left
    · refine zb_f (by omega) (fun z => e ((hm i hi).mp z)) ?_
      have e2 : zd_bs L mem D o (i + 1) = zd_bs L mem D o i := if_neg (fun z => e z.1)
      rw [e2] at h
      exact nm_r (nI_1 i) h
    refine zb_t (by omega) ((hm i hi).mpr e) ?_
    rw [zp_cell]
    refine And.intro (vp_in_nI (by omega) (by omega)) ?_
    rw [nI_clamp (n := i * 8 + o) (by omega)]
    by_cases h1 : D.1 (i * 8 + o) = 0
    · have e2 : zd_bs L mem D o (i + 1) = zd_bs L mem D o i := if_neg (fun z => z.2 h1)
      rw [e2] at h
      exact br_t ((zp_le0 (hk _).1).mpr h1) (nm_r (nI_1 i) h)
    refine br_f (fun z => h1 ((zp_le0 (hk _).1).mp z)) ?_
    have e2 : zd_bs L mem D o (i + 1) = (zd_bs L mem D o i).elim (some i) (fun r => if zd_nD L D (i * 8 + o) (r * 8 + o) = true then some i else some r) := if_pos ⟨e, h1⟩
    rw [e2] at h
    cases hb : zd_bs L mem D o i with
    | none =>
      rw [hb] at h
      exact br_t zp_m1 (nm_r (nI_1 i) h)
    | some r =>
      rw [hb] at h
      have hr := zp_bs i r hb
      rw [show zd_ey (some r) = nI r from rfl]
      refine br_f (nI_pos (by omega)) ?_
      refine zy_beats (by omega) (by omega) (by omega) ?_
      have h2 : wY_floodOne_5 post (nI c) (nI o) (nI n) (nI l) (nI L) (nI s) (zd_sf up fl) co D.1 D.2.1 D.2.2 us (zd_pk sd rc og ps pa pb) mk cm wk m (zd_ey (if zd_nD L D (i * 8 + o) (r * 8 + o) = true then some i else some r)) (nI (i + 1)) := h
      refine zb_b (fun e3 => ?_) (fun e3 => ?_)
      · rw [if_neg (by unfold zd_nD; rw [e3]; decide)] at h2
        exact nm_r (nI_1 i) h2
      · rw [if_pos (show zd_nD L D (i * 8 + o) (r * 8 + o) = true from e3)] at h2
        exact nm_r (nI_1 i) h2
theorem zy_flood {post : SY → Prop} (hl : zd_lk up fl) (hk : zd_ok D) (hc : zd_co co) (hn : n ≤ 8) (hl60 : l ≤ 60) (hp : ∀ cm', post (nI n, nI l, nI L, nI s, zd_sf up fl, co, (zd_fd n l L up fl co D n).1, (zd_fd n l L up fl co D n).2.1, (zd_fd n l L up fl co D n).2.2, us, zd_pk sd rc og ps pa pb, mk, cm', wk)) : wpY_flood post (nI n, nI l, nI L, nI s, zd_sf up fl, co, D.1, D.2.1, D.2.2, us, zd_pk sd rc og ps pa pb, mk, cm, wk) := by
  have hg := zp_gs (n := n) hn hl.2.1
  refine zp_l0 (fun m i => wY_flood_2 post (nI n) (nI l) (nI L) (nI s) m (nI i) (zd_sf up fl) co D.1 D.2.1 D.2.2 us (zd_pk sd rc og ps pa pb) mk (zd_c0 cm i) wk) n ?_ ?_
  · intro m
    refine br_t (nI_le (Nat.le_refl n) (by omega)) ?_
    refine zp_l0 (fun m k => wY_flood_25 post m (nI k) (nI n) (nI l) (nI L) (nI s) (zd_sf up fl) co D.1 D.2.1 D.2.2 us (zd_pk sd rc og ps pa pb) mk (zd_s3 n (zd_g up) (zd_c0 cm n) k) wk) n ?_ ?_
    · intro m
      refine br_t (nI_le (Nat.le_refl n) (by omega)) ?_
      have hp2 := hp (zd_s3 n (zd_g up) (zd_c0 cm n) n)
      have hld := fun c (hc : c < n) => zp_lead (cm := cm) hn hg hc
      have hmb := fun c r (hc : c < n) (hr : r < n) (hl : zg_ld n (zd_g up) c = true) => zp_memb (cm := cm) hn hg hc hr hl
      generalize zd_s3 n (zd_g up) (zd_c0 cm n) n = cc at *
      refine zp_l0 (fun m c => wY_flood_45 post m (nI c) (nI n) (nI l) (nI L) (nI s) (zd_sf up fl) co ((zd_fd n l L up fl co D c).1) ((zd_fd n l L up fl co D c).2.1) ((zd_fd n l L up fl co D c).2.2) us (zd_pk sd rc og ps pa pb) mk cc wk) n ?_ ?_
      · intro m
        exact br_t (nI_le (Nat.le_refl n) (by omega)) hp2
      · intro m c hcn h
        refine br_f (nI_ge hcn (by omega)) ?_
        have hv : vp_in (nI c) 8 := vp_in_nI (by omega) (by omega)
        by_cases e : zg_ld n (zd_g up) c = true
        · have e3 : zd_fd n l L up fl co D (c + 1) = zd_fc n l L fl co (zg_R n (zd_g up) c) (zd_fd n l L up fl co D c) n := if_pos e
          rw [e3] at h
          refine zp_l0 (fun k o => wY_flood_55 post (wY_flood_45 post m) (nI c) k (nI o) (nI n) (nI l) (nI L) (nI s) (zd_sf up fl) co ((zd_fc n l L fl co (zg_R n (zd_g up) c) (zd_fd n l L up fl co D c) o).1) ((zd_fc n l L fl co (zg_R n (zd_g up) c) (zd_fd n l L up fl co D c) o).2.1) ((zd_fc n l L fl co (zg_R n (zd_g up) c) (zd_fd n l L up fl co D c) o).2.2) us (zd_pk sd rc og ps pa pb) mk cc wk) n ?_ ?_
          · intro k
            refine br_t (nI_le (Nat.le_refl n) (by omega)) ?_
            exact nm_r (nI_1 c) h
          · intro k o ho g
            refine br_f (nI_ge ho (by omega)) (And.intro hv ?_)
            refine zb_t (by omega) ((hld c hcn).mpr e) ?_
            refine zy_floodOne (mem := zg_R n (zd_g up) c) hl (zp_ok_fc (zp_ok_fd hk hc hn hl60 c) hc hn hl60 o) hn ho (fun i hi => hmb c i hcn hi e) ?_
            exact nm_r (nI_1 o) g
        · have e3 : zd_fd n l L up fl co D (c + 1) = zd_fd n l L up fl co D c := if_neg e
          rw [e3] at h
          refine zp_l0 (fun k o => wY_flood_55 post (wY_flood_45 post m) (nI c) k (nI o) (nI n) (nI l) (nI L) (nI s) (zd_sf up fl) co ((zd_fd n l L up fl co D c).1) ((zd_fd n l L up fl co D c).2.1) ((zd_fd n l L up fl co D c).2.2) us (zd_pk sd rc og ps pa pb) mk cc wk) n ?_ ?_
          · intro k
            refine br_t (nI_le (Nat.le_refl n) (by omega)) ?_
            exact nm_r (nI_1 c) h
          · intro k o ho g
            refine br_f (nI_ge ho (by omega)) (And.intro hv ?_)
            refine zb_f (by omega) (fun z => e ((hld c hcn).mp z)) ?_
            exact nm_r (nI_1 o) g
    · intro m k hk2 h
      refine br_f (nI_ge hk2 (by omega)) ?_
      refine zy_names hn ?_
      exact nm_r (nI_1 k) h
  · intro m i hi h
    refine br_f (nI_ge hi (by omega)) (And.intro (vp_in_nI (by omega) (by omega)) ?_)
    refine nm_r (zp_up (by omega)) ?_
    exact nm_r (nI_1 i) h
end
end
section
/- settle -/
abbrev zd_F : Type := (Nat → Int32) × Nat × Int32 × (Nat → Int32)
def zd_i0 (a b : Nat) (F : zd_F) : zd_F := (upd (upd F.1 (a * 8 + b) 1) (b * 8 + a) 1, F.2.1 + 1, F.2.2.1 ||| (((1 : Int32) <<< (nI a &&& 31)) ||| ((1 : Int32) <<< (nI b &&& 31))), upd (upd F.2.2.2 a 1) b 1)
def zd_i1 (up : Nat → Int32) (a : Nat) (F : zd_F) : Nat → zd_F
  | 0 => F
  | b + 1 => if a < b ∧ ¬ up (a * 8 + b) = 0 ∧ (zd_i1 up a F b).1 (a * 8 + b) = 0 then zd_i0 a b (zd_i1 up a F b) else zd_i1 up a F b
def zd_i2 (n : Nat) (up : Nat → Int32) (F : zd_F) : Nat → zd_F
  | 0 => F
  | a + 1 => zd_i1 up a (zd_i2 n up F a) n
theorem zp_i1 {up : Nat → Int32} {a : Nat} {F : zd_F} : ∀ b, b ≤ a + 1 → zd_i1 up a F b = F := by
  intro b
  induction b with
  | zero => intro _; rfl
  | succ b ih =>
    intro h
    have e : zd_i1 up a F (b + 1) = zd_i1 up a F b := if_neg (fun z => absurd z.1 (by omega))
    rw [e]; exact ih (by omega)
/-- links in order, marks as the bits -/
def zd_Fk (n : Nat) (up : Nat → Int32) (F : zd_F) : Prop := zd_lk up F.1 ∧ ∀ j, j < n → F.2.2.2 j = zd_b (bt F.2.2.1 j)
theorem zp_Fk0 {n : Nat} {up : Nat → Int32} {F : zd_F} {a b : Nat} (hn : n ≤ 8) (h : zd_Fk n up F) (ha : a < n) (hb : b < n) (hu : ¬ up (a * 8 + b) = 0) : zd_Fk n up (zd_i0 a b F) := by
  refine ⟨zp_lk_fu h.1 (by omega) (by omega) hu, fun j hj => ?_⟩
  show upd (upd F.2.2.2 a 1) b 1 j = zd_b (bt (F.2.2.1 ||| (((1 : Int32) <<< (nI a &&& 31)) ||| ((1 : Int32) <<< (nI b &&& 31)))) j)
  rw [zp_u2, b_or, b_or, zp_bit1 (by omega) (by omega), zp_bit1 (by omega) (by omega)]
  by_cases e : j = b ∨ j = a
  · rw [if_pos e]
    rcases e with e | e
    · rw [decide_eq_true e, Bool.or_true, Bool.or_true]; rfl
    · rw [decide_eq_true e, Bool.true_or, Bool.or_true]; rfl
  · rw [if_neg e, decide_eq_false (fun z => e (Or.inr z)), decide_eq_false (fun z => e (Or.inl z)), Bool.or_false, Bool.or_false]
    exact h.2 j hj
theorem zp_Fk1 {n : Nat} {up : Nat → Int32} {F : zd_F} {a : Nat} (hn : n ≤ 8) (h : zd_Fk n up F) (ha : a < n) : ∀ b, b ≤ n → zd_Fk n up (zd_i1 up a F b) := by
  intro b
  induction b with
  | zero => intro _; exact h
  | succ b ih =>
    intro hb
    unfold zd_i1
    by_cases e : a < b ∧ ¬ up (a * 8 + b) = 0 ∧ (zd_i1 up a F b).1 (a * 8 + b) = 0
    · rw [if_pos e]; exact zp_Fk0 hn (ih (by omega)) ha (by omega) e.2.1
    · rw [if_neg e]; exact ih (by omega)
theorem zp_Fk2 {n : Nat} {up : Nat → Int32} {F : zd_F} (hn : n ≤ 8) (h : zd_Fk n up F) : ∀ a, a ≤ n → zd_Fk n up (zd_i2 n up F a) := by
  intro a
  induction a with
  | zero => intro _; exact h
  | succ a ih => exact fun ha => zp_Fk1 hn (ih (by omega)) (by omega) n (Nat.le_refl n)
/-- marks wiped -/
def zd_m0 (mk : Nat → Int32) : Nat → Nat → Int32
  | 0 => mk
  | k + 1 => upd (zd_m0 mk k) k 0
theorem zp_m0 {mk : Nat → Int32} : ∀ k j, j < k → zd_m0 mk k j = 0 := by
  intro k
  induction k with
  | zero => intro j hj; omega
  | succ k ih =>
    intro j hj
    by_cases e : j = k
    · rw [e]; exact pk_us
    · exact (pk_un e).trans (ih j (by omega))
section
variable {n l L s : Nat} {D : zd_DB} {up fl co us sd rc og ps pa pb rm ds se : Nat → Int32}
theorem zx_fill {post : Int32 → SX → Prop} {mk : Nat → Int32} (hn : n ≤ 8) (hp : post (nI (zd_i2 n up (fl, 0, 0, mk) n).2.1) (nI n, nI l, nI L, nI s, (zd_oa n l L (zd_i2 n up (fl, 0, 0, mk) n).1 co (fun j => bt (zd_i2 n up (fl, 0, 0, mk) n).2.2.1 j) D n).1, (zd_oa n l L (zd_i2 n up (fl, 0, 0, mk) n).1 co (fun j => bt (zd_i2 n up (fl, 0, 0, mk) n).2.2.1 j) D n).2.1, (zd_oa n l L (zd_i2 n up (fl, 0, 0, mk) n).1 co (fun j => bt (zd_i2 n up (fl, 0, 0, mk) n).2.2.1 j) D n).2.2, up, (zd_i2 n up (fl, 0, 0, mk) n).1, co, us, sd, rc, og, ps, pa, pb, rm, ds, se)) : wpX_fillLinks post (nI n, nI l, nI L, nI s, D.1, D.2.1, D.2.2, up, fl, co, us, sd, rc, og, ps, pa, pb, rm, ds, se) := by
  refine zp_l0 (fun m a => wX_fillLinks_6 post m (nI (zd_i2 n up (fl, 0, 0, mk) a).2.1) (zd_i2 n up (fl, 0, 0, mk) a).2.2.1 (nI a) (nI n) (nI l) (nI L) (nI s) D.1 D.2.1 D.2.2 up ((zd_i2 n up (fl, 0, 0, mk) a).1) co us sd rc og ps pa pb rm ds se) n ?_ ?_
  · intro m
    refine br_t (nI_le (Nat.le_refl n) (by omega)) ?_
    refine zx_oa hn (fun i _ => rfl) ?_
    exact hp
  · intro m a ha h
    have e0 : zd_i2 n up (fl, 0, 0, mk) (a + 1) = zd_i1 up a (zd_i2 n up (fl, 0, 0, mk) a) n := rfl
    rw [e0] at h
    generalize zd_i2 n up (fl, 0, 0, mk) a = F at *
    refine br_f (nI_ge ha (by omega)) ?_
    refine nm_r (nI_1 a) ?_
    have go : ∃ d, wX_fillLinks_19 post (wX_fillLinks_6 post m) (nI a) d (nI (zd_i1 up a F (a + 1)).2.1) (zd_i1 up a F (a + 1)).2.2.1 (nI (a + 1)) (nI n) (nI l) (nI L) (nI s) D.1 D.2.1 D.2.2 up ((zd_i1 up a F (a + 1)).1) co us sd rc og ps pa pb rm ds se := by
      refine zp_l1 (fun d b => wX_fillLinks_19 post (wX_fillLinks_6 post m) (nI a) d (nI (zd_i1 up a F b).2.1) (zd_i1 up a F b).2.2.1 (nI b) (nI n) (nI l) (nI L) (nI s) D.1 D.2.1 D.2.2 up ((zd_i1 up a F b).1) co us sd rc og ps pa pb rm ds se) n (a + 1) (by omega) ?_ ?_
      · intro d
        refine br_t (nI_le (Nat.le_refl n) (by omega)) ?_
        exact nm_r (nI_1 a) h
      · intro d b hab hb g
        refine br_f (nI_ge hb (by omega)) ?_
        refine zx_cell a b ?_
        refine zx_isOpen (by omega) ?_
        refine zb_b (fun e => ?_) (fun e => ?_)
        · have e2 : zd_i1 up a F (b + 1) = zd_i1 up a F b := if_neg (fun z => (of_decide_eq_false e) z.2)
          rw [e2] at g
          exact nm_r (nI_1 b) g
        · have e2 : zd_i1 up a F (b + 1) = zd_i0 a b (zd_i1 up a F b) := if_pos ⟨by omega, of_decide_eq_true e⟩
          rw [e2] at g
          refine zx_setFull (by omega) (by omega) zp_n1 ?_
          refine nm_r (nI_1 _) ?_
          refine nm_e ?_
          exact nm_r (nI_1 b) g
    rw [zp_i1 (a + 1) (Nat.le_refl _)] at go
    exact go
theorem zx_settle {post : Int32 → SX → Prop} {mk : Nat → Int32} (hn : n ≤ 8) (hs : s ≤ 16)
    (hp : post (nI (zd_i2 n up (fl, 0, 0, mk) n).2.1) (nI n, nI l, nI L, nI s, (zd_fd n l L up (zd_i2 n up (fl, 0, 0, mk) n).1 co (zd_oa n l L (zd_i2 n up (fl, 0, 0, mk) n).1 co (fun j => bt (zd_i2 n up (fl, 0, 0, mk) n).2.2.1 j) (zd_fd n l L up fl co D n) n) n).1, (zd_fd n l L up (zd_i2 n up (fl, 0, 0, mk) n).1 co (zd_oa n l L (zd_i2 n up (fl, 0, 0, mk) n).1 co (fun j => bt (zd_i2 n up (fl, 0, 0, mk) n).2.2.1 j) (zd_fd n l L up fl co D n) n) n).2.1, (zd_fd n l L up (zd_i2 n up (fl, 0, 0, mk) n).1 co (zd_oa n l L (zd_i2 n up (fl, 0, 0, mk) n).1 co (fun j => bt (zd_i2 n up (fl, 0, 0, mk) n).2.2.1 j) (zd_fd n l L up fl co D n) n) n).2.2, up, (zd_i2 n up (fl, 0, 0, mk) n).1, co, zd_fr (fun _ => true) us s, sd, rc, og, ps, pa, pb, rm, ds, se)) : wpX_settle post (nI n, nI l, nI L, nI s, D.1, D.2.1, D.2.2, up, fl, co, us, sd, rc, og, ps, pa, pb, rm, ds, se) := by
  refine zp_l0 (fun m i => wX_settle_2 post (nI n) (nI l) (nI L) (nI s) m (nI i) D.1 D.2.1 D.2.2 up fl co (zd_fr (fun _ => true) us i) sd rc og ps pa pb rm ds se) s ?_ ?_
  · intro m
    refine br_t (nI_le (Nat.le_refl s) (by omega)) ?_
    refine zx_flood hn ?_
    refine zx_fill (mk := mk) hn ?_
    refine zx_flood hn ?_
    exact hp
  · intro m i hi h
    refine br_f (nI_ge hi (by omega)) (And.intro (vp_in_nI (by omega) (by omega)) ?_)
    refine nm_r (zp_un (by omega) zp_n0) ?_
    exact nm_r (nI_1 i) h
end
section
variable {n l L s : Nat} {D : zd_DB} {up fl co us sd rc og ps pa pb mk cm wk : Nat → Int32}
theorem zy_s127 {post : Int32 → SY → Prop} {x : Int32} {c : Nat → Bool} (hl : zd_lk up fl) (hk : zd_ok D) (hco : zd_co co) (hn : n ≤ 8) (hl60 : l ≤ 60) (hc : ∀ i, i < n → mk i = zd_b (c i)) (hp : ∀ cm', post x (nI n, nI l, nI L, nI s, zd_sf up fl, co, (zd_fd n l L up fl co (zd_oa n l L fl co c D n) n).1, (zd_fd n l L up fl co (zd_oa n l L fl co c D n) n).2.1, (zd_fd n l L up fl co (zd_oa n l L fl co c D n) n).2.2, us, zd_pk sd rc og ps pa pb, mk, cm', wk)) : ∃ m, wY_settle_127 post x m 0 (nI n) (nI l) (nI L) (nI s) (zd_sf up fl) co D.1 D.2.1 D.2.2 us (zd_pk sd rc og ps pa pb) mk cm wk := by
  refine zp_l0 (fun m i => wY_settle_127 post x m (nI i) (nI n) (nI l) (nI L) (nI s) (zd_sf up fl) co ((zd_oa n l L fl co c D i).1) ((zd_oa n l L fl co c D i).2.1) ((zd_oa n l L fl co c D i).2.2) us (zd_pk sd rc og ps pa pb) mk cm wk) n ?_ ?_
  · intro m
    refine br_t (nI_le (Nat.le_refl n) (by omega)) ?_
    exact zy_flood hl (zp_ok_oa hk hco hn hl60 n) hco hn hl60 hp
  · intro m i hi h
    refine br_f (nI_ge hi (by omega)) (And.intro (vp_in_nI (by omega) (by omega)) ?_)
    by_cases e : c i = true
    · refine zb_f (by omega) (fun z => absurd ((hc i hi).symm.trans z) (by rw [e]; decide)) ?_
      have e2 : zd_oa n l L fl co c D (i + 1) = zd_og n l L fl co (zd_oa n l L fl co c D i) i := if_pos e
      rw [e2] at h
      refine zy_orig hl.1 hn (by omega) ?_
      exact nm_r (nI_1 i) h
    · refine zb_t (by omega) ((hc i hi).trans (zp_b0.mpr (zp_nf e))) ?_
      have e2 : zd_oa n l L fl co c D (i + 1) = zd_oa n l L fl co c D i := if_neg e
      rw [e2] at h
      exact nm_r (nI_1 i) h
theorem zy_s54 {post : Int32 → SY → Prop} (hl : zd_lk up fl) (hk : zd_ok D) (hco : zd_co co) (hn : n ≤ 8) (hl60 : l ≤ 60) (hz : ∀ j, j < n → mk j = 0)
    (hp : ∀ cm', post (nI (zd_i2 n up (fl, 0, 0, mk) n).2.1) (nI n, nI l, nI L, nI s, zd_sf up ((zd_i2 n up (fl, 0, 0, mk) n).1), co, (zd_fd n l L up (zd_i2 n up (fl, 0, 0, mk) n).1 co (zd_oa n l L (zd_i2 n up (fl, 0, 0, mk) n).1 co (fun j => bt (zd_i2 n up (fl, 0, 0, mk) n).2.2.1 j) D n) n).1, (zd_fd n l L up (zd_i2 n up (fl, 0, 0, mk) n).1 co (zd_oa n l L (zd_i2 n up (fl, 0, 0, mk) n).1 co (fun j => bt (zd_i2 n up (fl, 0, 0, mk) n).2.2.1 j) D n) n).2.1, (zd_fd n l L up (zd_i2 n up (fl, 0, 0, mk) n).1 co (zd_oa n l L (zd_i2 n up (fl, 0, 0, mk) n).1 co (fun j => bt (zd_i2 n up (fl, 0, 0, mk) n).2.2.1 j) D n) n).2.2, us, zd_pk sd rc og ps pa pb, (zd_i2 n up (fl, 0, 0, mk) n).2.2.2, cm', wk)) : ∃ m, wY_settle_54 post m 0 0 (nI n) (nI l) (nI L) (nI s) (zd_sf up fl) co D.1 D.2.1 D.2.2 us (zd_pk sd rc og ps pa pb) mk cm wk := by
  have hF : zd_Fk n up (fl, 0, 0, mk) := ⟨hl, fun j hj => by show mk j = zd_b (bt 0 j); rw [b_0, hz j hj]; rfl⟩
  refine zp_l0 (fun m a => wY_settle_54 post m (nI (zd_i2 n up (fl, 0, 0, mk) a).2.1) (nI a) (nI n) (nI l) (nI L) (nI s) (zd_sf up ((zd_i2 n up (fl, 0, 0, mk) a).1)) co D.1 D.2.1 D.2.2 us (zd_pk sd rc og ps pa pb) ((zd_i2 n up (fl, 0, 0, mk) a).2.2.2) cm wk) n ?_ ?_
  · intro m
    refine br_t (nI_le (Nat.le_refl n) (by omega)) ?_
    have h2 := zp_Fk2 hn hF n (Nat.le_refl n)
    exact zy_s127 h2.1 hk hco hn hl60 h2.2 hp
  · intro m a ha h
    have hFa := zp_Fk2 hn hF a (by omega)
    have e0 : zd_i2 n up (fl, 0, 0, mk) (a + 1) = zd_i1 up a (zd_i2 n up (fl, 0, 0, mk) a) n := rfl
    rw [e0] at h
    generalize zd_i2 n up (fl, 0, 0, mk) a = F at *
    refine br_f (nI_ge ha (by omega)) ?_
    refine nm_r (nI_1 a) ?_
    have go : ∃ d, wY_settle_66 post (wY_settle_54 post m) (nI a) d (nI (zd_i1 up a F (a + 1)).2.1) (nI (a + 1)) (nI n) (nI l) (nI L) (nI s) (zd_sf up ((zd_i1 up a F (a + 1)).1)) co D.1 D.2.1 D.2.2 us (zd_pk sd rc og ps pa pb) ((zd_i1 up a F (a + 1)).2.2.2) cm wk := by
      refine zp_l1 (fun d b => wY_settle_66 post (wY_settle_54 post m) (nI a) d (nI (zd_i1 up a F b).2.1) (nI b) (nI n) (nI l) (nI L) (nI s) (zd_sf up ((zd_i1 up a F b).1)) co D.1 D.2.1 D.2.2 us (zd_pk sd rc og ps pa pb) ((zd_i1 up a F b).2.2.2) cm wk) n (a + 1) (by omega) ?_ ?_
      · intro d
        refine br_t (nI_le (Nat.le_refl n) (by omega)) ?_
        exact nm_r (nI_1 a) h
      · intro d b hab hb g
        refine br_f (nI_ge hb (by omega)) ?_
        rw [zp_cell]
        refine And.intro (vp_in_nI (by omega) (by omega)) ?_
        by_cases e : ¬ up (a * 8 + b) = 0 ∧ (zd_i1 up a F b).1 (a * 8 + b) = 0
        · have e2 : zd_i1 up a F (b + 1) = zd_i0 a b (zd_i1 up a F b) := if_pos ⟨by omega, e⟩
          rw [e2] at g
          refine zb_t (by omega) (zp_sf1.mpr e) ?_
          refine zy_setLink (by omega) (by omega) ?_
          rw [zp_sf_fu e.1 (by rw [← hl.2.1 a b (by omega) (by omega)]; exact e.1)]
          refine And.intro (vp_in_nI (by omega) (by omega)) ?_
          refine nm_r (zp_un (by omega) zp_n1) ?_
          refine And.intro (vp_in_nI (by omega) (by omega)) ?_
          refine nm_r (zp_un (by omega) zp_n1) ?_
          refine nm_r (nI_1 _) ?_
          exact nm_r (nI_1 b) g
        · have e2 : zd_i1 up a F (b + 1) = zd_i1 up a F b := if_neg (fun z => e z.2)
          rw [e2] at g
          refine zb_f (by omega) (fun z => e (zp_sf1.mp z)) ?_
          exact nm_r (nI_1 b) g
    rw [zp_i1 (a + 1) (Nat.le_refl _)] at go
    exact go
theorem zy_settle {post : Int32 → SY → Prop} (hl : zd_lk up fl) (hk : zd_ok D) (hco : zd_co co) (hn : n ≤ 8) (hs : s ≤ 16) (hl60 : l ≤ 60)
    (hp : ∀ cm' mk', post (nI (zd_i2 n up (fl, 0, 0, zd_m0 mk n) n).2.1) (nI n, nI l, nI L, nI s, zd_sf up ((zd_i2 n up (fl, 0, 0, zd_m0 mk n) n).1), co, (zd_fd n l L up (zd_i2 n up (fl, 0, 0, zd_m0 mk n) n).1 co (zd_oa n l L (zd_i2 n up (fl, 0, 0, zd_m0 mk n) n).1 co (fun j => bt (zd_i2 n up (fl, 0, 0, zd_m0 mk n) n).2.2.1 j) (zd_fd n l L up fl co D n) n) n).1, (zd_fd n l L up (zd_i2 n up (fl, 0, 0, zd_m0 mk n) n).1 co (zd_oa n l L (zd_i2 n up (fl, 0, 0, zd_m0 mk n) n).1 co (fun j => bt (zd_i2 n up (fl, 0, 0, zd_m0 mk n) n).2.2.1 j) (zd_fd n l L up fl co D n) n) n).2.1, (zd_fd n l L up (zd_i2 n up (fl, 0, 0, zd_m0 mk n) n).1 co (zd_oa n l L (zd_i2 n up (fl, 0, 0, zd_m0 mk n) n).1 co (fun j => bt (zd_i2 n up (fl, 0, 0, zd_m0 mk n) n).2.2.1 j) (zd_fd n l L up fl co D n) n) n).2.2, zd_fr (fun _ => true) us s, zd_pk sd rc og ps pa pb, mk', cm', wk)) : wpY_settle post (nI n, nI l, nI L, nI s, zd_sf up fl, co, D.1, D.2.1, D.2.2, us, zd_pk sd rc og ps pa pb, mk, cm, wk) := by
  refine zp_l0 (fun m i => wY_settle_4 post 0 (nI n) (nI l) (nI L) (nI s) m (nI i) (zd_sf up fl) co D.1 D.2.1 D.2.2 (zd_fr (fun _ => true) us i) (zd_pk sd rc og ps pa pb) mk cm wk) s ?_ ?_
  · intro m
    refine br_t (nI_le (Nat.le_refl s) (by omega)) ?_
    refine zy_flood hl hk hco hn hl60 ?_
    intro cm1
    refine zp_l0 (fun m i => wY_settle_31 post 0 (nI n) (nI l) (nI L) (nI s) m (nI i) (zd_sf up fl) co ((zd_fd n l L up fl co D n).1) ((zd_fd n l L up fl co D n).2.1) ((zd_fd n l L up fl co D n).2.2) (zd_fr (fun _ => true) us s) (zd_pk sd rc og ps pa pb) (zd_m0 mk i) cm1 wk) n ?_ ?_
    · intro m
      refine br_t (nI_le (Nat.le_refl n) (by omega)) ?_
      exact zy_s54 hl (zp_ok_fd hk hco hn hl60 n) hco hn hl60 (zp_m0 n) (fun cm' => hp cm' _)
    · intro m i hi h
      refine br_f (nI_ge hi (by omega)) (And.intro (vp_in_nI (by omega) (by omega)) ?_)
      refine nm_r (zp_un (by omega) zp_n0) ?_
      exact nm_r (nI_1 i) h
  · intro m i hi h
    refine br_f (nI_ge hi (by omega)) (And.intro (vp_in_nI (by omega) (by omega)) ?_)
    refine nm_r (zp_un (by omega) zp_n0) ?_
    exact nm_r (nI_1 i) h
end
end
section
/- walks and least costs -/
/-- the k-th digit to base 8 -/
def zw_d (x : Int32) (k : Nat) : Nat := x.toNatClampNeg / 8 ^ k % 8
theorem zw_d_lt (x : Int32) (k : Nat) : zw_d x k < 8 := Nat.mod_lt _ (by decide)
def zw_x (bd : Nat → Int32) (a u v : Nat) : Nat := if zw_d (bd (a * 8 + v)) u = 0 then 0 else zw_d (bd (a * 8 + u)) v
def zw_e (bd : Nat → Int32) (a u v : Nat) : Nat := if u = v then 0 else zw_x bd a u v
theorem zw_x_lt (bd : Nat → Int32) (a u v : Nat) : zw_x bd a u v < 8 := by
  unfold zw_x
  by_cases h : zw_d (bd (a * 8 + v)) u = 0
  · rw [if_pos h]; omega
  · rw [if_neg h]; exact zw_d_lt _ _
theorem zw_e_lt (bd : Nat → Int32) (a u v : Nat) : zw_e bd a u v < 8 := by
  unfold zw_e
  by_cases h : u = v
  · rw [if_pos h]; omega
  · rw [if_neg h]; exact zw_x_lt _ _ _ _
theorem zw_e_x {bd : Nat → Int32} {a u v : Nat} (h : u ≠ v) : zw_e bd a u v = zw_x bd a u v := if_neg h
theorem zw_e_s (bd : Nat → Int32) (a u : Nat) : zw_e bd a u u = 0 := if_pos rfl
/-- a walk of m edges and total t from f to v -/
def zw_W (n : Nat) (e : Nat → Nat → Nat) (f : Nat) : Nat → Nat → Nat → Prop
  | 0, t, v => t = 0 ∧ v = f
  | m + 1, t, v => ∃ u, u < n ∧ 0 < e u v ∧ e u v ≤ t ∧ zw_W n e f m (t - e u v) u
def zw_K (n : Nat) (e : Nat → Nat → Nat) (f t v : Nat) : Prop := ∃ m, zw_W n e f m t v
section
variable {n : Nat} {e : Nat → Nat → Nat}
theorem zw_K0 {f v : Nat} : zw_K n e f 0 v ↔ v = f := by
  constructor
  · intro h
    obtain ⟨m, h⟩ := h
    cases m with
    | zero => exact h.2
    | succ m => obtain ⟨u, hu, h1, h2, _⟩ := h; omega
  · intro h; exact ⟨0, rfl, h⟩
theorem zw_Ks {f t v : Nat} (ht : 0 < t) : zw_K n e f t v ↔ ∃ u, u < n ∧ 0 < e u v ∧ e u v ≤ t ∧ zw_K n e f (t - e u v) u := by
  constructor
  · intro h
    obtain ⟨m, h⟩ := h
    cases m with
    | zero => have := h.1; omega
    | succ m => obtain ⟨u, hu, h1, h2, h3⟩ := h; exact ⟨u, hu, h1, h2, m, h3⟩
  · intro h
    obtain ⟨u, hu, h1, h2, m, h3⟩ := h
    exact ⟨m + 1, u, hu, h1, h2, h3⟩
theorem zw_pre {u v : Nat} (hv : v < n) (h0 : 0 < e v u) : ∀ m t d, zw_W n e u m t d → zw_W n e v (m + 1) (t + e v u) d := by
  intro m
  induction m with
  | zero =>
    intro t d h
    obtain ⟨h1, h2⟩ := h
    subst h1 h2
    exact ⟨v, hv, h0, by omega, by omega, rfl⟩
  | succ m ih =>
    intro t d h
    obtain ⟨x, hx, h1, h2, h3⟩ := h
    refine ⟨x, hx, h1, by omega, ?_⟩
    have h4 := ih _ _ h3
    rw [show t + e v u - e x d = t - e x d + e v u by omega]
    exact h4
theorem zw_Kpre {u v t d : Nat} (hv : v < n) (h0 : 0 < e v u) (h : zw_K n e u t d) : zw_K n e v (t + e v u) d := by
  obtain ⟨m, h⟩ := h
  exact ⟨m + 1, zw_pre hv h0 m t d h⟩
/-- the reference's least total -/
def zw_L (n : Nat) (e : Nat → Nat → Nat) (f q : Nat) (r : Int32) : Prop := (r = -1 ∧ ∀ t, t < 50 → ¬ zw_K n e f t q) ∨ ∃ k, k < 50 ∧ r = nI k ∧ zw_K n e f k q ∧ ∀ t, t < k → ¬ zw_K n e f t q
/-- the component's table of least totals to q -/
def zw_F (n : Nat) (e : Nat → Nat → Nat) (q : Nat) (ds : Nat → Int32) : Prop := ∀ v, v < n → (ds v = -1 ∧ ∀ t, ¬ zw_K n e v t q) ∨ ∃ k, k < 50 ∧ ds v = nI k ∧ zw_K n e v k q ∧ ∀ t, zw_K n e v t q → k ≤ t
theorem zw_LF {q v : Nat} {ds : Nat → Int32} {r : Int32} (hv : v < n) (hF : zw_F n e q ds) (hL : zw_L n e v q r) : r = ds v := by
  rcases hF v hv with ⟨h1, h2⟩ | ⟨k, hk, h1, h2, h3⟩
  · rcases hL with ⟨h4, _⟩ | ⟨k, hk, h4, h5, _⟩
    · rw [h1, h4]
    · exact absurd h5 (h2 k)
  · rcases hL with ⟨h4, h5⟩ | ⟨k2, hk2, h4, h5, h6⟩
    · exact absurd h2 (h5 k hk)
    · have a := h3 k2 h5
      by_cases hlt : k < k2
      · exact absurd h2 (h6 k hlt)
      · rw [h1, h4, show k2 = k by omega]
end
/-- the nearest unsettled router, i done -/
def zw_nr (ds se : Nat → Int32) : Nat → Option Nat
  | 0 => none
  | i + 1 => if se i = 0 ∧ ¬ ds i < 0 ∧ (zw_nr ds se i).elim true (fun b => !decide (ds b ≤ ds i)) = true then some i else zw_nr ds se i
def zw_rx (x : Nat → Nat → Nat) (se : Nat → Int32) (u : Nat) (ds : Nat → Int32) : Nat → Nat → Int32
  | 0 => ds
  | v + 1 => if 0 < x v u ∧ se v = 0 ∧ (zw_rx x se u ds v v < 0 ∨ ¬ zw_rx x se u ds v v ≤ zw_rx x se u ds v u + nI (x v u)) then upd (zw_rx x se u ds v) v (zw_rx x se u ds v u + nI (x v u)) else zw_rx x se u ds v
def zw_ms (x : Nat → Nat → Nat) (n : Nat) (ds se : Nat → Int32) : Nat → (Nat → Int32) × (Nat → Int32)
  | 0 => (ds, se)
  | j + 1 => (zw_nr (zw_ms x n ds se j).1 (zw_ms x n ds se j).2 n).elim (zw_ms x n ds se j) (fun u => (zw_rx x (upd (zw_ms x n ds se j).2 u 1) u (zw_ms x n ds se j).1 n, upd (zw_ms x n ds se j).2 u 1))
theorem zw_ms_st {x : Nat → Nat → Nat} {n : Nat} {ds se : Nat → Int32} {j : Nat} (h : zw_nr (zw_ms x n ds se j).1 (zw_ms x n ds se j).2 n = none) : ∀ d, zw_ms x n ds se (j + d) = zw_ms x n ds se j := by
  intro d
  induction d with
  | zero => rfl
  | succ d ih =>
    show (zw_nr (zw_ms x n ds se (j + d)).1 (zw_ms x n ds se (j + d)).2 n).elim (zw_ms x n ds se (j + d)) (fun u => (zw_rx x (upd (zw_ms x n ds se (j + d)).2 u 1) u (zw_ms x n ds se (j + d)).1 n, upd (zw_ms x n ds se (j + d)).2 u 1)) = _
    rw [ih, h]; rfl
theorem zw_nr_lt {ds se : Nat → Int32} : ∀ k b, zw_nr ds se k = some b → b < k ∧ se b = 0 ∧ ¬ ds b < 0 := by
  intro k
  induction k with
  | zero => intro b h; cases h
  | succ k ih =>
    intro b h
    unfold zw_nr at h
    by_cases e : se k = 0 ∧ ¬ ds k < 0 ∧ (zw_nr ds se k).elim true (fun b => !decide (ds b ≤ ds k)) = true
    · rw [if_pos e] at h
      cases h
      exact ⟨by omega, e.1, e.2.1⟩
    · rw [if_neg e] at h
      obtain ⟨h1, h2⟩ := ih b h
      exact ⟨by omega, h2⟩
theorem zw_nr_no {ds se : Nat → Int32} : ∀ k, zw_nr ds se k = none → ∀ i, i < k → se i = 0 → ds i < 0 := by
  intro k
  induction k with
  | zero => intro _ i hi; omega
  | succ k ih =>
    intro h i hi hs
    unfold zw_nr at h
    by_cases e : se k = 0 ∧ ¬ ds k < 0 ∧ (zw_nr ds se k).elim true (fun b => !decide (ds b ≤ ds k)) = true
    · rw [if_pos e] at h; cases h
    · rw [if_neg e] at h
      by_cases hik : i = k
      · subst hik
        rw [h] at e
        by_cases hd : ds i < 0
        · exact hd
        · exact absurd ⟨hs, hd, rfl⟩ e
      · exact ih h i (by omega) hs
theorem zw_nr_min {ds se : Nat → Int32} : ∀ k b, zw_nr ds se k = some b → ∀ i, i < k → se i = 0 → ¬ ds i < 0 → ds b ≤ ds i := by
  intro k
  induction k with
  | zero => intro b h; cases h
  | succ k ih =>
    intro b h i hi hs hd
    unfold zw_nr at h
    by_cases e : se k = 0 ∧ ¬ ds k < 0 ∧ (zw_nr ds se k).elim true (fun b => !decide (ds b ≤ ds k)) = true
    · rw [if_pos e] at h
      cases h
      by_cases hik : i = k
      · rw [hik]; exact Int32.le_rfl
      · cases hb : zw_nr ds se k with
        | none => exact absurd (zw_nr_no k hb i (by omega) hs) hd
        | some b0 =>
          have h1 := ih b0 hb i (by omega) hs hd
          have h2 := e.2.2
          rw [hb] at h2
          have h3 : (!decide (ds b0 ≤ ds k)) = true := h2
          rw [Bool.not_eq_true', decide_eq_false_iff_not] at h3
          exact Int32.le_trans (Int32.le_of_lt (Int32.not_le.mp h3)) h1
    · rw [if_neg e] at h
      by_cases hik : i = k
      · subst hik
        rw [h] at e
        by_cases hle : ds b ≤ ds i
        · exact hle
        · exfalso
          apply e
          refine ⟨hs, hd, ?_⟩
          show (!decide (ds b ≤ ds i)) = true
          rw [decide_eq_false hle]; rfl
      · exact ih b h i (by omega) hs hd
/-- a relaxation, all at once -/
def zw_ry (x : Nat → Nat → Nat) (se : Nat → Int32) (u : Nat) (ds : Nat → Int32) : Nat → Int32 := fun v => if 0 < x v u ∧ se v = 0 ∧ (ds v < 0 ∨ ¬ ds v ≤ ds u + nI (x v u)) then ds u + nI (x v u) else ds v
theorem zw_rx_ry {x : Nat → Nat → Nat} {se : Nat → Int32} {u : Nat} {ds : Nat → Int32} (hu : ¬ se u = 0) : ∀ k v, zw_rx x se u ds k v = if v < k then zw_ry x se u ds v else ds v := by
  intro k
  induction k with
  | zero => intro v; rw [if_neg (by omega)]; rfl
  | succ k ih =>
    intro v
    have eu : zw_rx x se u ds k u = ds u := by
      rw [ih u]
      by_cases h : u < k
      · rw [if_pos h]; exact if_neg (fun z => hu z.2.1)
      · rw [if_neg h]
    have ek : zw_rx x se u ds k k = ds k := by rw [ih k, if_neg (by omega)]
    show (if 0 < x k u ∧ se k = 0 ∧ (zw_rx x se u ds k k < 0 ∨ ¬ zw_rx x se u ds k k ≤ zw_rx x se u ds k u + nI (x k u)) then upd (zw_rx x se u ds k) k (zw_rx x se u ds k u + nI (x k u)) else zw_rx x se u ds k) v = _
    rw [eu, ek]
    by_cases e : 0 < x k u ∧ se k = 0 ∧ (ds k < 0 ∨ ¬ ds k ≤ ds u + nI (x k u))
    · rw [if_pos e]
      by_cases hv : v = k
      · subst hv
        rw [pk_us, if_pos (by omega)]
        exact (if_pos e).symm
      · rw [pk_un hv, ih v]
        by_cases hlt : v < k
        · rw [if_pos hlt, if_pos (by omega)]
        · rw [if_neg hlt, if_neg (by omega)]
    · rw [if_neg e, ih v]
      by_cases hv : v = k
      · subst hv
        rw [if_neg (by omega), if_pos (by omega)]
        exact (if_neg e).symm
      · by_cases hlt : v < k
        · rw [if_pos hlt, if_pos (by omega)]
        · rw [if_neg hlt, if_neg (by omega)]
end
section
/- the component's search keeps its promises -/
theorem zp_nm1 {k : Nat} (hk : k < 2 ^ 31) : ¬ nI k = -1 := fun h => nI_pos hk (by rw [h]; exact zp_m1)
def zw_I (n : Nat) (e : Nat → Nat → Nat) (q j : Nat) (ds se : Nat → Int32) : Prop :=
  (∀ v, v < n → ds v = -1 ∨ ∃ k, ds v = nI k ∧ k ≤ 7 * j ∧ zw_K n e v k q ∧ (¬ se v = 0 → k + 7 ≤ 7 * j)) ∧
  (∀ v, v < n → ¬ se v = 0 → ¬ ds v = -1) ∧
  (∀ u v, u < n → v < n → ¬ se u = 0 → 0 < e v u → ∃ k k', k ≤ 7 * j ∧ k' ≤ 7 * j ∧ ds u = nI k ∧ ds v = nI k' ∧ k' ≤ k + e v u) ∧
  (∀ u v, u < n → v < n → ¬ se u = 0 → se v = 0 → ¬ ds v < 0 → ds u ≤ ds v) ∧
  ds q = nI 0 ∧
  j ≤ zg_cn (fun v => !decide (se v = 0)) n
theorem zw_I_step {n q j u : Nat} {e x : Nat → Nat → Nat} {ds se : Nat → Int32} (hn : n ≤ 8) (hj : j < n) (hq : q < n) (he : ∀ u v, e u v < 8) (hes : ∀ u, e u u = 0) (hx : ∀ u v, u ≠ v → x u v = e u v)
    (hI : zw_I n e q j ds se) (hb : zw_nr ds se n = some u) : zw_I n e q (j + 1) (zw_rx x (upd se u 1) u ds n) (upd se u 1) := by
  obtain ⟨hA, hA2, hC, hD, hE, hN⟩ := hI
  obtain ⟨hu, hsu, hdu⟩ := zw_nr_lt n u hb
  have hmin := zw_nr_min n u hb
  have huA : ∃ k0, ds u = nI k0 ∧ k0 ≤ 7 * j ∧ zw_K n e u k0 q := by
    rcases hA u hu with h | ⟨k, h1, h2, h3, _⟩
    · rw [h] at hdu; exact absurd zp_m1 hdu
    · exact ⟨k, h1, h2, h3⟩
  obtain ⟨k0, hk0, hk0j, hKu⟩ := huA
  have hse' : ∀ v, upd se u 1 v = 0 ↔ v ≠ u ∧ se v = 0 := by
    intro v
    by_cases h : v = u
    · rw [h, pk_us]; exact ⟨fun z => absurd z zp_10, fun z => absurd rfl z.1⟩
    · rw [pk_un h]; exact ⟨fun z => ⟨h, z⟩, fun z => z.2⟩
  have hsu' : ¬ upd se u 1 u = 0 := fun z => ((hse' u).mp z).1 rfl
  have hds : ∀ v, v < n → zw_rx x (upd se u 1) u ds n v = zw_ry x (upd se u 1) u ds v := by
    intro v hv
    rw [zw_rx_ry hsu' n v, if_pos hv]
  generalize zw_rx x (upd se u 1) u ds n = ds' at hds ⊢
  -- each router: lowered, or as it was
  have hcase : ∀ v, v < n → (v ≠ u ∧ se v = 0 ∧ 0 < e v u ∧ ds' v = nI (k0 + e v u) ∧ (ds v = -1 ∨ ∃ k, ds v = nI k ∧ k ≤ 7 * j ∧ k0 + e v u < k)) ∨ (ds' v = ds v ∧ (v ≠ u → se v = 0 → 0 < e v u → ∃ k, ds v = nI k ∧ k ≤ 7 * j ∧ k ≤ k0 + e v u)) := by
    intro v hv
    have hev := he v u
    rw [hds v hv]
    unfold zw_ry
    by_cases hvu : v = u
    · right
      rw [if_neg (fun z => ((hse' v).mp z.2.1).1 hvu)]
      exact ⟨rfl, fun z => absurd hvu z⟩
    rw [hx v u hvu, hk0, nI_add]
    by_cases hsv : se v = 0
    rotate_left
    · right
      rw [if_neg (fun z => hsv ((hse' v).mp z.2.1).2)]
      exact ⟨rfl, fun _ z => absurd z hsv⟩
    by_cases hpos : 0 < e v u
    rotate_left
    · right
      rw [if_neg (fun z => hpos z.1)]
      exact ⟨rfl, fun _ _ z => absurd z hpos⟩
    rcases hA v hv with h | ⟨k, h1, h2, h3, h4⟩
    · left
      rw [if_pos ⟨hpos, (hse' v).mpr ⟨hvu, hsv⟩, Or.inl (by rw [h]; exact zp_m1)⟩]
      exact ⟨hvu, hsv, hpos, rfl, Or.inl h⟩
    · by_cases hlt : k0 + e v u < k
      · left
        rw [if_pos ⟨hpos, (hse' v).mpr ⟨hvu, hsv⟩, Or.inr (by rw [h1, nI_leI (by omega) (by omega)]; omega)⟩]
        exact ⟨hvu, hsv, hpos, rfl, Or.inr ⟨k, h1, h2, hlt⟩⟩
      · right
        rw [if_neg (fun z => by
          rcases z.2.2 with y | y
          · rw [h1] at y; exact nI_pos (by omega) y
          · rw [h1, nI_leI (by omega) (by omega)] at y; omega)]
        exact ⟨rfl, fun _ _ _ => ⟨k, h1, h2, by omega⟩⟩
  have hsame : ∀ v, v < n → ¬ se v = 0 → ds' v = ds v := by
    intro v hv hs
    rcases hcase v hv with h | h
    · exact absurd h.2.1 hs
    · exact h.1
  have hsameu : ds' u = ds u := by
    rcases hcase u hu with h | h
    · exact absurd rfl h.1
    · exact h.1
  have hold : ∀ v, v < n → ¬ upd se u 1 v = 0 → v ≠ u → ¬ se v = 0 := fun v _ h1 h2 z => h1 ((hse' v).mpr ⟨h2, z⟩)
  refine ⟨?_, ?_, ?_, ?_, ?_, ?_⟩
  · intro v hv
    have hev := he v u
    rcases hcase v hv with ⟨h1, h2, h3, h4, _⟩ | ⟨h1, _⟩
    · right
      refine ⟨k0 + e v u, h4, by omega, zw_Kpre hv h3 hKu, fun z => absurd ((hse' v).mpr ⟨h1, h2⟩) z⟩
    · rw [h1]
      rcases hA v hv with h | ⟨k, g1, g2, g3, g4⟩
      · exact Or.inl h
      · refine Or.inr ⟨k, g1, by omega, g3, fun z => ?_⟩
        by_cases hvu : v = u
        · omega
        · have := g4 (hold v hv z hvu); omega
  · intro v hv hs
    by_cases hvu : v = u
    · rw [hvu, hsameu, hk0]; exact zp_nm1 (by omega)
    · have h := hold v hv hs hvu
      rw [hsame v hv h]; exact hA2 v hv h
  · intro w v hw hv hs hpos
    have hev := he v w
    by_cases hwu : w = u
    · subst hwu
      rw [hsameu]
      rcases hcase v hv with ⟨h1, h2, h3, h4, _⟩ | ⟨h1, h2⟩
      · exact ⟨k0, k0 + e v w, by omega, by omega, hk0, h4, by omega⟩
      · by_cases hvw : v = w
        · rw [hvw, hes w] at hpos; omega
        · rw [h1]
          by_cases hsv : se v = 0
          · obtain ⟨k, g1, g2, g3⟩ := h2 hvw hsv hpos
            exact ⟨k0, k, by omega, by omega, hk0, g1, g3⟩
          · rcases hA v hv with h | ⟨k, g1, g2, g3, g4⟩
            · exact absurd h (hA2 v hv hsv)
            · have hd := hD v w hv hw hsv hsu hdu
              rw [g1, hk0, nI_leI (by omega) (by omega)] at hd
              exact ⟨k0, k, by omega, by omega, hk0, g1, by omega⟩
    · have hsw := hold w hw hs hwu
      obtain ⟨k, k', g1, g2, g3, g4, g5⟩ := hC w v hw hv hsw hpos
      rw [hsame w hw hsw]
      rcases hcase v hv with ⟨h1, h2, h3, h4, h5⟩ | ⟨h1, _⟩
      · have hevu := he v u
        rcases h5 with h5 | ⟨k2, h5, h6, h7⟩
        · rw [h5] at g4; exact absurd g4.symm (zp_nm1 (by omega))
        · rw [h5, nI_eq (by omega) (by omega)] at g4
          exact ⟨k, k0 + e v u, by omega, by omega, g3, h4, by omega⟩
      · rw [h1]; exact ⟨k, k', by omega, by omega, g3, g4, g5⟩
  · intro w v hw hv hs hsv hdv
    obtain ⟨hvu, hsv0⟩ := (hse' v).mp hsv
    have hwle : ds' w ≤ ds u ∧ ∀ k, ds v = nI k → k ≤ 7 * j → ds' w ≤ ds v := by
      by_cases hwu : w = u
      · rw [hwu, hsameu]
        exact ⟨Int32.le_rfl, fun k hk hkj => hmin v hv hsv0 (by rw [hk]; exact nI_pos (by omega))⟩
      · have hsw := hold w hw hs hwu
        rw [hsame w hw hsw]
        exact ⟨hD w u hw hu hsw hsu hdu, fun k hk hkj => hD w v hw hv hsw hsv0 (by rw [hk]; exact nI_pos (by omega))⟩
    rcases hcase v hv with ⟨h1, h2, h3, h4, h5⟩ | ⟨h1, _⟩
    · have hevu := he v u
      rw [h4]
      refine Int32.le_trans hwle.1 ?_
      rw [hk0, nI_leI (by omega) (by omega)]; omega
    · rw [h1]
      rcases hA v hv with h | ⟨k, g1, g2, _⟩
      · rw [h1, h] at hdv; exact absurd zp_m1 hdv
      · exact hwle.2 k g1 g2
  · rcases hcase q hq with ⟨h1, h2, h3, h4, h5⟩ | ⟨h1, _⟩
    · have hevu := he q u
      rcases h5 with h5 | ⟨k, h5, h6, h7⟩
      · rw [hE] at h5; exact absurd h5 (zp_nm1 (by omega))
      · rw [hE, nI_eq (by omega) (by omega)] at h5; omega
    · rw [h1]; exact hE
  · have hlt := zg_cn_lt (fun v => !decide (se v = 0)) (fun v => !decide (upd se u 1 v = 0)) n (fun r hr h => by
      show (!decide (upd se u 1 r = 0)) = true
      have h' : (!decide (se r = 0)) = true := h
      rw [Bool.not_eq_true', decide_eq_false_iff_not] at h' ⊢
      exact fun z => h' ((hse' r).mp z).2) ⟨u, hu, by
        show (!decide (upd se u 1 u = 0)) = true
        rw [Bool.not_eq_true', decide_eq_false_iff_not]; exact hsu', by
        show (!decide (se u = 0)) = false
        rw [decide_eq_true hsu]; rfl⟩
    omega
/-- all rounds -/
theorem zw_I_all {n q : Nat} {e x : Nat → Nat → Nat} {ds se : Nat → Int32} (hn : n ≤ 8) (hq : q < n) (he : ∀ u v, e u v < 8) (hes : ∀ u, e u u = 0) (hx : ∀ u v, u ≠ v → x u v = e u v) (hI : zw_I n e q 0 ds se) : ∀ j, j ≤ n → (∃ i, i ≤ j ∧ zw_I n e q i (zw_ms x n ds se j).1 (zw_ms x n ds se j).2 ∧ zw_nr (zw_ms x n ds se j).1 (zw_ms x n ds se j).2 n = none) ∨ zw_I n e q j (zw_ms x n ds se j).1 (zw_ms x n ds se j).2 := by
  intro j
  induction j with
  | zero => intro _; exact Or.inr hI
  | succ j ih =>
    intro hj
    rcases ih (by omega) with ⟨i, hi, h1, h2⟩ | h
    · left
      have e1 := zw_ms_st h2 1
      rw [e1]
      exact ⟨i, by omega, h1, h2⟩
    · cases hb : zw_nr (zw_ms x n ds se j).1 (zw_ms x n ds se j).2 n with
      | none =>
        left
        have e1 := zw_ms_st hb 1
        rw [e1]
        exact ⟨j, by omega, h, hb⟩
      | some u =>
        right
        have e1 : zw_ms x n ds se (j + 1) = (zw_rx x (upd (zw_ms x n ds se j).2 u 1) u (zw_ms x n ds se j).1 n, upd (zw_ms x n ds se j).2 u 1) := by
          show (zw_nr (zw_ms x n ds se j).1 (zw_ms x n ds se j).2 n).elim (zw_ms x n ds se j) (fun u => (zw_rx x (upd (zw_ms x n ds se j).2 u 1) u (zw_ms x n ds se j).1 n, upd (zw_ms x n ds se j).2 u 1)) = _
          rw [hb]; rfl
        rw [e1]
        exact zw_I_step hn (by omega) hq he hes hx h hb
theorem zg_cn_all {p : Nat → Bool} {n : Nat} (h : n ≤ zg_cn p n) : ∀ v, v < n → p v = true := by
  intro v hv
  by_cases e : p v = true
  · exact e
  · have h1 := zg_cn_lt p (fun _ => true) n (fun _ _ _ => rfl) ⟨v, hv, rfl, zp_nf e⟩
    have h2 := zg_cn_n (fun _ => true) n
    omega
theorem zw_fin {n q i : Nat} {e : Nat → Nat → Nat} {ds se : Nat → Int32} (hn : n ≤ 8) (hq : q < n) (hi : i ≤ n) (hI : zw_I n e q i ds se) (hall : ∀ v, v < n → se v = 0 → ds v < 0) : zw_F n e q ds := by
  obtain ⟨hA, hA2, hC, hD, hE, hN⟩ := hI
  have hset : ∀ v k, v < n → k ≤ 56 → ds v = nI k → ¬ se v = 0 := fun v k hv hk h z => nI_pos (show k < 2 ^ 31 by omega) (by rw [← h]; exact hall v hv z)
  have hcmp : ∀ m f t v k, f < n → v < n → k ≤ 56 → ds v = nI k → zw_W n e f m t v → ∃ k2, k2 ≤ 56 ∧ ds f = nI k2 ∧ k2 ≤ t + k := by
    intro m
    induction m with
    | zero =>
      intro f t v k hf hv hk hd h
      obtain ⟨h1, h2⟩ := h
      exact ⟨k, hk, by rw [← h2]; exact hd, by omega⟩
    | succ m ih =>
      intro f t v k hf hv hk hd h
      obtain ⟨u, hu, h1, h2, h3⟩ := h
      obtain ⟨a, b, g1, g2, g3, g4, g5⟩ := hC v u hv hu (hset v k hv hk hd) h1
      rw [hd, nI_eq (by omega) (by omega)] at g3
      obtain ⟨k2, r1, r2, r3⟩ := ih f (t - e u v) u b hf hu (by omega) g4 h3
      exact ⟨k2, r1, r2, by omega⟩
  intro v hv
  rcases hA v hv with h | ⟨k, g1, g2, g3, g4⟩
  · left
    refine ⟨h, fun t ht => ?_⟩
    obtain ⟨m, hm⟩ := ht
    obtain ⟨k2, r1, r2, r3⟩ := hcmp m v t q 0 hv hq (by omega) hE hm
    rw [h] at r2
    exact zp_nm1 (by omega) r2.symm
  · right
    have hs := hset v k hv (by omega) g1
    have := g4 hs
    refine ⟨k, by omega, g1, g3, fun t ht => ?_⟩
    obtain ⟨m, hm⟩ := ht
    obtain ⟨k2, r1, r2, r3⟩ := hcmp m v t q 0 hv hq (by omega) hE hm
    rw [g1, nI_eq (by omega) (by omega)] at r2
    omega
theorem zw_done {n q : Nat} {e x : Nat → Nat → Nat} {ds se : Nat → Int32} (hn : n ≤ 8) (hq : q < n) (he : ∀ u v, e u v < 8) (hes : ∀ u, e u u = 0) (hx : ∀ u v, u ≠ v → x u v = e u v) (hI : zw_I n e q 0 ds se) : zw_F n e q (zw_ms x n ds se n).1 := by
  rcases zw_I_all hn hq he hes hx hI n (Nat.le_refl n) with ⟨i, hi, h1, h2⟩ | h
  · exact zw_fin hn hq hi h1 (fun v hv hs => zw_nr_no n h2 v hv hs)
  · have hN := h.2.2.2.2.2
    refine zw_fin hn hq (Nat.le_refl n) h (fun v hv hs => ?_)
    have h3 := zg_cn_all hN v hv
    have h4 : (!decide ((zw_ms x n ds se n).2 v = 0)) = true := h3
    rw [decide_eq_true hs] at h4
    exact absurd h4 (by decide)
/-- the start -/
def zw_d0 (ds : Nat → Int32) : Nat → Nat → Int32
  | 0 => ds
  | k + 1 => upd (zw_d0 ds k) k (-1)
theorem zp_d0 {ds : Nat → Int32} : ∀ k j, j < k → zw_d0 ds k j = -1 := by
  intro k
  induction k with
  | zero => intro j hj; omega
  | succ k ih =>
    intro j hj
    by_cases e : j = k
    · rw [e]; exact pk_us
    · exact (pk_un e).trans (ih j (by omega))
theorem zw_start {n q : Nat} {e : Nat → Nat → Nat} {ds se : Nat → Int32} (hq : q < n) : zw_I n e q 0 (upd (zw_d0 ds n) q 0) (zd_m0 se n) := by
  have hz : ∀ v, v < n → zd_m0 se n v = 0 := zp_m0 n
  refine ⟨fun v hv => ?_, fun v hv h => absurd (hz v hv) h, fun u v hu hv h => absurd (hz u hu) h, fun u v hu hv h => absurd (hz u hu) h, pk_us.trans nI_0.symm, Nat.zero_le _⟩
  by_cases h : v = q
  · right
    rw [h]
    exact ⟨0, pk_us.trans nI_0.symm, by omega, zw_K0.mpr rfl, fun z => absurd (hz q hq) z⟩
  · left
    rw [pk_un h]; exact zp_d0 n v hv
end
section
/- the component's paths -/
theorem zp_nat {x : Int32} (h : 0 ≤ x) : x.toNatClampNeg < 2 ^ 31 ∧ x = nI x.toNatClampNeg := by
  obtain ⟨j, hj, e⟩ := nI_of (Int32.not_lt.mpr h)
  rw [e, nI_clamp hj]
  exact ⟨hj, rfl⟩
theorem zp_dig {x : Int32} {k : Nat} (h : 0 ≤ x) (hk : k < 8) : (x >>> ((3 * nI k) &&& 31)) &&& 7 = nI (zw_d x k) := by
  obtain ⟨h1, h2⟩ := zp_nat h
  unfold zw_d
  generalize x.toNatClampNeg = y at h1 h2
  have h3 : y / 2 ^ (3 * k) ≤ y := Nat.div_le_self _ _
  rw [h2, pk_shrN h1 _ _ (zp_shl k hk), pk_andN (by omega) 3 (by decide), Nat.pow_mul]
section
variable {n l L s : Nat} {D : zd_DB} {up fl co us sd rc og ps pa pb rm ds se : Nat → Int32}
theorem zx_edge {post : Int32 → Prop} {a u v : Nat} (hk : zd_ok D) (ha : a < 8) (hu : u < 8) (hv : v < 8) (hp : post (nI (zw_x D.2.2 a u v))) : wpX_edge post (nI n, nI l, nI L, nI s, D.1, D.2.1, D.2.2, up, fl, co, us, sd, rc, og, ps, pa, pb, rm, ds, se) (nI a) (nI u) (nI v) := by
  unfold wpX_edge
  refine zx_cell a u ?_
  refine And.intro (vp_in_nI (by omega) (by omega)) ?_
  refine nm_r (e' := nI (zw_d (D.2.2 (a * 8 + u)) v)) (by rw [nI_clamp (by omega)]; exact zp_dig (hk _).2 hv) ?_
  refine zx_cell a v ?_
  refine And.intro (vp_in_nI (by omega) (by omega)) ?_
  refine nm_r (e' := nI (zw_d (D.2.2 (a * 8 + v)) u)) (by rw [nI_clamp (by omega)]; exact zp_dig (hk _).2 hu) ?_
  unfold zw_x at hp
  have hlt := zw_d_lt (D.2.2 (a * 8 + v)) u
  by_cases h : zw_d (D.2.2 (a * 8 + v)) u = 0
  · rw [if_pos h, nI_0] at hp
    exact br_t (by rw [h]; exact nI_0) hp
  · rw [if_neg h] at hp
    exact br_f (nI_ne0 (by omega) (by omega)) hp
theorem zx_nearest {post : Int32 → Prop} (hn : n ≤ 8) (hp : post (zd_ey (zw_nr ds se n))) : wpX_nearest post (nI n, nI l, nI L, nI s, D.1, D.2.1, D.2.2, up, fl, co, us, sd, rc, og, ps, pa, pb, rm, ds, se) := by
  refine zp_l0 (fun m i => wX_nearest_4 post (nI n) (nI l) (nI L) (nI s) D.1 D.2.1 D.2.2 up fl co us sd rc og ps pa pb rm ds se m (zd_ey (zw_nr ds se i)) (nI i)) n ?_ ?_
  · intro m
    exact br_t (nI_le (Nat.le_refl n) (by omega)) hp
  · intro m i hi h
    have hv : vp_in (nI i) 8 := vp_in_nI (by omega) (by omega)
    have c31 : i < 2 ^ 31 := by omega
    refine br_f (nI_ge hi (by omega)) (And.intro hv ?_)
    by_cases h1 : se i = 0
    rotate_left
    · have e2 : zw_nr ds se (i + 1) = zw_nr ds se i := if_neg (fun z => h1 z.1)
      rw [e2] at h
      exact zb_f c31 h1 (nm_r (nI_1 i) h)
    refine zb_t c31 h1 (And.intro hv ?_)
    rw [nI_clamp c31]
    by_cases h2 : ds i < 0
    · have e2 : zw_nr ds se (i + 1) = zw_nr ds se i := if_neg (fun z => z.2.1 h2)
      rw [e2] at h
      exact br_t h2 (nm_r (nI_1 i) h)
    refine br_f h2 ?_
    cases hb : zw_nr ds se i with
    | none =>
      have e2 : zw_nr ds se (i + 1) = some i := if_pos ⟨h1, h2, by rw [hb]; rfl⟩
      rw [e2] at h
      exact br_t zp_m1 (nm_r (nI_1 i) h)
    | some b =>
      have hbl := (zw_nr_lt i b hb).1
      rw [show zd_ey (some b) = nI b from rfl]
      refine br_f (nI_pos (by omega)) (And.intro hv (And.intro (vp_in_nI (by omega) (by omega)) ?_))
      rw [nI_clamp (n := b) (by omega)]
      by_cases h3 : ds b ≤ ds i
      · have e2 : zw_nr ds se (i + 1) = zw_nr ds se i := if_neg (fun z => by
          have z3 := z.2.2
          rw [hb] at z3
          have z4 : (!decide (ds b ≤ ds i)) = true := z3
          rw [decide_eq_true h3] at z4
          exact absurd z4 (by decide))
        rw [e2, hb] at h
        exact br_t h3 (nm_r (nI_1 i) h)
      · have e2 : zw_nr ds se (i + 1) = some i := if_pos ⟨h1, h2, by
          rw [hb]
          show (!decide (ds b ≤ ds i)) = true
          rw [decide_eq_false h3]; rfl⟩
        rw [e2] at h
        exact br_f h3 (nm_r (nI_1 i) h)
theorem zx_relax {post : SX → Prop} {a u : Nat} (hk : zd_ok D) (hn : n ≤ 8) (ha : a < 8) (hu : u < 8) (hp : post (nI n, nI l, nI L, nI s, D.1, D.2.1, D.2.2, up, fl, co, us, sd, rc, og, ps, pa, pb, rm, zw_rx (zw_x D.2.2 a) se u ds n, se)) : wpX_relax post (nI n, nI l, nI L, nI s, D.1, D.2.1, D.2.2, up, fl, co, us, sd, rc, og, ps, pa, pb, rm, ds, se) (nI a) (nI u) := by
  refine zp_l0 (fun m i => wX_relax_2 post (nI a) (nI u) (nI n) (nI l) (nI L) (nI s) m (nI i) D.1 D.2.1 D.2.2 up fl co us sd rc og ps pa pb rm (zw_rx (zw_x D.2.2 a) se u ds i) se) n ?_ ?_
  · intro m
    exact br_t (nI_le (Nat.le_refl n) (by omega)) hp
  · intro m i hi h
    have hv : vp_in (nI i) 8 := vp_in_nI (by omega) (by omega)
    have hvu : vp_in (nI u) 8 := vp_in_nI (by omega) (by omega)
    have ci : (nI i).toNatClampNeg = i := nI_clamp (by omega)
    have cu : (nI u).toNatClampNeg = u := nI_clamp (by omega)
    have hlt := zw_x_lt D.2.2 a i u
    have yes : 0 < zw_x D.2.2 a i u ∧ se i = 0 ∧ (zw_rx (zw_x D.2.2 a) se u ds i i < 0 ∨ ¬ zw_rx (zw_x D.2.2 a) se u ds i i ≤ zw_rx (zw_x D.2.2 a) se u ds i u + nI (zw_x D.2.2 a i u)) → wX_relax_60 post (wX_relax_2 post (nI a) (nI u) (nI n) (nI l) (nI L) (nI s) m) (nI a) (nI u) (nI i) (nI (zw_x D.2.2 a i u)) (nI n) (nI l) (nI L) (nI s) D.1 D.2.1 D.2.2 up fl co us sd rc og ps pa pb rm (zw_rx (zw_x D.2.2 a) se u ds i) se := by
      intro hc
      have e2 : zw_rx (zw_x D.2.2 a) se u ds (i + 1) = upd (zw_rx (zw_x D.2.2 a) se u ds i) i (zw_rx (zw_x D.2.2 a) se u ds i u + nI (zw_x D.2.2 a i u)) := if_pos hc
      rw [e2] at h
      unfold wX_relax_60
      rw [ci, cu]
      refine And.intro hvu (And.intro hv ?_)
      exact nm_e (nm_r (nI_1 i) h)
    have no : ¬ (0 < zw_x D.2.2 a i u ∧ se i = 0 ∧ (zw_rx (zw_x D.2.2 a) se u ds i i < 0 ∨ ¬ zw_rx (zw_x D.2.2 a) se u ds i i ≤ zw_rx (zw_x D.2.2 a) se u ds i u + nI (zw_x D.2.2 a i u))) → wX_relax_2 post (nI a) (nI u) (nI n) (nI l) (nI L) (nI s) m (nI (i + 1)) D.1 D.2.1 D.2.2 up fl co us sd rc og ps pa pb rm (zw_rx (zw_x D.2.2 a) se u ds i) se := by
      intro hc
      have e2 : zw_rx (zw_x D.2.2 a) se u ds (i + 1) = zw_rx (zw_x D.2.2 a) se u ds i := if_neg hc
      rw [e2] at h
      exact h
    refine br_f (nI_ge hi (by omega)) ?_
    refine zx_edge hk ha (by omega) hu ?_
    by_cases h0 : 0 < zw_x D.2.2 a i u
    rotate_left
    · exact br_t (by rw [show zw_x D.2.2 a i u = 0 by omega, nI_0]; exact Int32.le_rfl) (nm_r (nI_1 i) (no (fun z => h0 z.1)))
    refine br_f (nI_nle h0 (by omega)) (And.intro hv ?_)
    rw [ci, cu]
    by_cases h1 : se i = 0
    rotate_left
    · exact br_f h1 (nm_r (nI_1 i) (no (fun z => h1 z.2.1)))
    refine br_t h1 (And.intro hv ?_)
    by_cases h2 : zw_rx (zw_x D.2.2 a) se u ds i i < 0
    · exact br_t h2 (yes ⟨h0, h1, Or.inl h2⟩)
    refine br_f h2 (And.intro hvu (And.intro hv ?_))
    by_cases h3 : zw_rx (zw_x D.2.2 a) se u ds i i ≤ zw_rx (zw_x D.2.2 a) se u ds i u + nI (zw_x D.2.2 a i u)
    · exact br_t h3 (nm_r (nI_1 i) (no (fun z => z.2.2.elim h2 (fun y => y h3))))
    · exact br_f h3 (yes ⟨h0, h1, Or.inr h3⟩)
theorem zx_measure {post : SX → Prop} {a q : Nat} (hk : zd_ok D) (hn : n ≤ 8) (ha : a < 8) (hq : q < n) (hp : ∀ ds' se', zw_F n (zw_e D.2.2 a) q ds' → post (nI n, nI l, nI L, nI s, D.1, D.2.1, D.2.2, up, fl, co, us, sd, rc, og, ps, pa, pb, rm, ds', se')) : wpX_measure post (nI n, nI l, nI L, nI s, D.1, D.2.1, D.2.2, up, fl, co, us, sd, rc, og, ps, pa, pb, rm, ds, se) (nI a) (nI q) := by
  have hF := zw_done (e := zw_e D.2.2 a) (x := zw_x D.2.2 a) hn hq (zw_e_lt D.2.2 a) (zw_e_s D.2.2 a) (fun u v h => (zw_e_x h).symm) (zw_start (ds := ds) (se := se) hq)
  have hp2 := hp _ (zw_ms (zw_x D.2.2 a) n (upd (zw_d0 ds n) q 0) (zd_m0 se n) n).2 hF
  refine zp_l0 (fun m i => wX_measure_2 post (nI a) (nI q) (nI n) (nI l) (nI L) (nI s) m (nI i) D.1 D.2.1 D.2.2 up fl co us sd rc og ps pa pb rm (zw_d0 ds i) (zd_m0 se i)) n ?_ ?_
  · intro m
    refine br_t (nI_le (Nat.le_refl n) (by omega)) (And.intro (vp_in_nI (by omega) (by omega)) ?_)
    refine nm_r (zp_up (by omega)) ?_
    generalize upd (zw_d0 ds n) q 0 = d0 at *
    generalize zd_m0 se n = s0 at *
    refine zp_l0 (fun m j => wX_measure_39 post (nI a) m (nI j) (nI n) (nI l) (nI L) (nI s) D.1 D.2.1 D.2.2 up fl co us sd rc og ps pa pb rm ((zw_ms (zw_x D.2.2 a) n d0 s0 j).1) ((zw_ms (zw_x D.2.2 a) n d0 s0 j).2)) n ?_ ?_
    · intro m
      exact br_t (nI_le (Nat.le_refl n) (by omega)) hp2
    · intro m j hj h
      refine br_f (nI_ge hj (by omega)) ?_
      refine zx_nearest hn ?_
      cases hb : zw_nr (zw_ms (zw_x D.2.2 a) n d0 s0 j).1 (zw_ms (zw_x D.2.2 a) n d0 s0 j).2 n with
      | none =>
        have e1 := zw_ms_st hb (n - j)
        rw [show j + (n - j) = n by omega] at e1
        rw [e1] at hp2
        exact br_f zp_m1' hp2
      | some u =>
        have hu := (zw_nr_lt n u hb).1
        have e1 : zw_ms (zw_x D.2.2 a) n d0 s0 (j + 1) = (zw_rx (zw_x D.2.2 a) (upd (zw_ms (zw_x D.2.2 a) n d0 s0 j).2 u 1) u (zw_ms (zw_x D.2.2 a) n d0 s0 j).1 n, upd (zw_ms (zw_x D.2.2 a) n d0 s0 j).2 u 1) := by
          show (zw_nr (zw_ms (zw_x D.2.2 a) n d0 s0 j).1 (zw_ms (zw_x D.2.2 a) n d0 s0 j).2 n).elim (zw_ms (zw_x D.2.2 a) n d0 s0 j) (fun u => (zw_rx (zw_x D.2.2 a) (upd (zw_ms (zw_x D.2.2 a) n d0 s0 j).2 u 1) u (zw_ms (zw_x D.2.2 a) n d0 s0 j).1 n, upd (zw_ms (zw_x D.2.2 a) n d0 s0 j).2 u 1)) = _
          rw [hb]; rfl
        rw [e1] at h
        rw [show zd_ey (some u) = nI u from rfl]
        refine br_t (nI_pos' (by omega)) (And.intro (vp_in_nI (by omega) (by omega)) ?_)
        refine nm_r (zp_un (by omega) zp_n1) ?_
        refine zx_relax hk hn ha (by omega) ?_
        exact nm_r (nI_1 j) h
  · intro m i hi h
    have hv : vp_in (nI i) 8 := vp_in_nI (by omega) (by omega)
    refine br_f (nI_ge hi (by omega)) (And.intro hv ?_)
    refine nm_r (zp_up (by omega)) ?_
    refine And.intro hv ?_
    refine nm_r (zp_un (by omega) zp_n0) ?_
    exact nm_r (nI_1 i) h
end
end
section
/- the reference's paths -/
section
variable {n l L s : Nat} {D : zd_DB} {up fl co us sd rc og ps pa pb mk cm wk : Nat → Int32}
theorem zy_edge {post : Int32 → Prop} {a u v : Nat} (hk : zd_ok D) (ha : a < 8) (hu : u < 8) (hv : v < 8) (hp : post (nI (zw_e D.2.2 a u v))) : wpY_edge post (nI n, nI l, nI L, nI s, zd_sf up fl, co, D.1, D.2.1, D.2.2, us, zd_pk sd rc og ps pa pb, mk, cm, wk) (nI a) (nI u) (nI v) := by
  obtain ⟨b1, e1⟩ := zp_nat (hk (a * 8 + u)).2
  obtain ⟨b2, e2⟩ := zp_nat (hk (a * 8 + v)).2
  have hw : ∀ y : Nat, y < 2 ^ 31 → ∀ k, y / 8 ^ k < 2 ^ 31 := fun y hy k => Nat.lt_of_le_of_lt (Nat.div_le_self _ _) hy
  have hd : ∀ y : Nat, y < 2 ^ 31 → ∀ k, nI (y / 8 ^ k) / 8 = nI (y / 8 ^ (k + 1)) := by
    intro y hy k
    rw [zp_8, pk_div (hw y hy k) (by decide) (by decide), Nat.div_div_eq_div_mul, Nat.pow_succ]
  have hr : ∀ y : Nat, y < 2 ^ 31 → ∀ k, nI (y / 8 ^ k) - nI (y / 8 ^ k) / 8 * 8 = nI (y / 8 ^ k % 8) := by
    intro y hy k
    rw [zp_8, pk_rem (hw y hy k) (by decide) (by decide)]
  unfold wpY_edge
  rw [zp_cell, zp_cell]
  refine And.intro (vp_in_nI (by omega) (by omega)) ?_
  refine nm_r ((zp_rd (by omega)).trans e1) ?_
  refine And.intro (vp_in_nI (by omega) (by omega)) ?_
  refine nm_r ((zp_rd (by omega)).trans e2) ?_
  unfold zw_e zw_x zw_d at hp
  generalize (D.2.2 (a * 8 + u)).toNatClampNeg = y1 at *
  generalize (D.2.2 (a * 8 + v)).toNatClampNeg = y2 at *
  have go : ∃ m, wY_edge_29 post (nI u) (nI v) (nI y2) (nI n) (nI l) (nI L) (nI s) (zd_sf up fl) co D.1 D.2.1 D.2.2 us (zd_pk sd rc og ps pa pb) mk cm wk m (nI (y1 / 8 ^ 0)) (nI 0) := by
    refine zp_l0 (fun m i => wY_edge_29 post (nI u) (nI v) (nI y2) (nI n) (nI l) (nI L) (nI s) (zd_sf up fl) co D.1 D.2.1 D.2.2 us (zd_pk sd rc og ps pa pb) mk cm wk m (nI (y1 / 8 ^ i)) (nI i)) v ?_ ?_
    · intro m
      refine br_t (nI_le (Nat.le_refl v) (by omega)) ?_
      have go2 : ∃ m, wY_edge_51 post (nI u) (nI v) (nI (y1 / 8 ^ v)) (nI n) (nI l) (nI L) (nI s) (zd_sf up fl) co D.1 D.2.1 D.2.2 us (zd_pk sd rc og ps pa pb) mk cm wk m (nI (y2 / 8 ^ 0)) (nI 0) := by
        refine zp_l0 (fun m i => wY_edge_51 post (nI u) (nI v) (nI (y1 / 8 ^ v)) (nI n) (nI l) (nI L) (nI s) (zd_sf up fl) co D.1 D.2.1 D.2.2 us (zd_pk sd rc og ps pa pb) mk cm wk m (nI (y2 / 8 ^ i)) (nI i)) u ?_ ?_
        · intro m
          refine br_t (nI_le (Nat.le_refl u) (by omega)) ?_
          by_cases h : u = v
          · rw [if_pos h, nI_0] at hp
            exact br_t (congrArg nI h) hp
          · rw [if_neg h] at hp
            refine br_f (zp_ne (by omega) (by omega) h) (And.intro (by decide) ?_)
            rw [hr y2 b2 u, hr y1 b1 v]
            by_cases h2 : y2 / 8 ^ u % 8 = 0
            · rw [if_pos h2, nI_0] at hp
              exact br_t (by rw [h2]; exact nI_0) hp
            · rw [if_neg h2] at hp
              exact br_f (nI_ne0 (by omega) (by omega)) (And.intro (by decide) hp)
        · intro m i hi h
          refine br_f (nI_ge hi (by omega)) (And.intro (by decide) ?_)
          refine nm_r (hd y2 b2 i) ?_
          exact nm_r (nI_1 i) h
      rw [Nat.pow_zero, Nat.div_one] at go2
      exact go2
    · intro m i hi h
      refine br_f (nI_ge hi (by omega)) (And.intro (by decide) ?_)
      refine nm_r (hd y1 b1 i) ?_
      exact nm_r (nI_1 i) h
  rw [Nat.pow_zero, Nat.div_one] at go
  exact go
/-- the table of walks, rows below t whole, row t below v -/
def zw_T (n : Nat) (e : Nat → Nat → Nat) (f t v : Nat) (wk : Nat → Int32) : Prop := ∀ t' v', v' < n → (t' < t ∨ (t' = t ∧ v' < v)) → (¬ wk (t' * 8 + v') = 0 ↔ zw_K n e f t' v')
theorem zy_arrives {post : Int32 → Prop} {a f t v : Nat} (hk : zd_ok D) (hn : n ≤ 8) (ha : a < 8) (hv : v < n) (ht0 : 0 < t) (ht : t < 50) (hT : zw_T n (zw_e D.2.2 a) f t v wk) (h1 : zw_K n (zw_e D.2.2 a) f t v → post 1) (h0 : ¬ zw_K n (zw_e D.2.2 a) f t v → post 0) : wpY_arrives post (nI n, nI l, nI L, nI s, zd_sf up fl, co, D.1, D.2.1, D.2.2, us, zd_pk sd rc og ps pa pb, mk, cm, wk) (nI a) (nI t) (nI v) := by
  generalize he : zw_e D.2.2 a = e at *
  have hel : ∀ u v, e u v < 8 := by rw [← he]; exact zw_e_lt D.2.2 a
  obtain ⟨g1, g2, g3⟩ := zp_sr0 (fun u => decide (0 < e u v ∧ e u v ≤ t ∧ ¬ wk ((t - e u v) * 8 + u) = 0)) n
  have hiff : ∀ u, u < n → (0 < e u v ∧ e u v ≤ t ∧ ¬ wk ((t - e u v) * 8 + u) = 0 ↔ 0 < e u v ∧ e u v ≤ t ∧ zw_K n e f (t - e u v) u) := by
    intro u hu
    constructor
    · intro h; exact ⟨h.1, h.2.1, (hT _ u hu (Or.inl (by omega))).mp h.2.2⟩
    · intro h; exact ⟨h.1, h.2.1, (hT _ u hu (Or.inl (by omega))).mpr h.2.2⟩
  have ed : ∀ u {P : Int32 → Prop}, u < 8 → P (nI (e u v)) → wpY_edge P (nI n, nI l, nI L, nI s, zd_sf up fl, co, D.1, D.2.1, D.2.2, us, zd_pk sd rc og ps pa pb, mk, cm, wk) (nI a) (nI u) (nI v) := fun u P hu h => zy_edge hk ha hu (by omega) (by rw [he]; exact h)
  have cont : ∀ m i, i < n → ¬ (0 < e i v ∧ e i v ≤ t ∧ ¬ wk ((t - e i v) * 8 + i) = 0) → wY_arrives_3 post (nI a) (nI t) (nI v) (nI n) (nI l) (nI L) (nI s) (zd_sf up fl) co D.1 D.2.1 D.2.2 us (zd_pk sd rc og ps pa pb) mk cm wk m (nI (i + 1)) → wY_arrives_3 post (nI a) (nI t) (nI v) (nI n) (nI l) (nI L) (nI s) (zd_sf up fl) co D.1 D.2.1 D.2.2 us (zd_pk sd rc og ps pa pb) mk cm wk (m + 1) (nI i) := by
    intro m i hi hc h
    have hl := hel i v
    refine br_f (nI_ge hi (by omega)) ?_
    refine ed i (by omega) ?_
    by_cases p0 : 0 < e i v
    rotate_left
    · exact br_t (by rw [show e i v = 0 by omega, nI_0]; exact Int32.le_rfl) (nm_r (nI_1 i) h)
    refine br_f (nI_nle p0 (by omega)) ?_
    by_cases p1 : e i v ≤ t
    rotate_left
    · exact br_t (nI_lt (by omega) (by omega)) (nm_r (nI_1 i) h)
    refine br_f (nI_nlt p1 (by omega)) ?_
    rw [pk_sub p1, zp_cell]
    refine And.intro (vp_in_nI (by omega) (by omega)) ?_
    exact zb_t (by omega) (Classical.byContradiction (fun z => hc ⟨p0, p1, z⟩)) (nm_r (nI_1 i) h)
  by_cases hq : zd_sr (fun u => decide (0 < e u v ∧ e u v ≤ t ∧ ¬ wk ((t - e u v) * 8 + u) = 0)) 0 n < n
  · refine zp_l0 (fun m i => wY_arrives_3 post (nI a) (nI t) (nI v) (nI n) (nI l) (nI L) (nI s) (zd_sf up fl) co D.1 D.2.1 D.2.2 us (zd_pk sd rc og ps pa pb) mk cm wk m (nI i)) (zd_sr (fun u => decide (0 < e u v ∧ e u v ≤ t ∧ ¬ wk ((t - e u v) * 8 + u) = 0)) 0 n) ?_ ?_
    · intro m
      have hc := of_decide_eq_true (g3 hq)
      generalize zd_sr (fun u => decide (0 < e u v ∧ e u v ≤ t ∧ ¬ wk ((t - e u v) * 8 + u) = 0)) 0 n = i at *
      have hl := hel i v
      have hK : zw_K n e f t v := (zw_Ks ht0).mpr ⟨i, hq, (hiff i hq).mp hc⟩
      refine br_f (nI_ge hq (by omega)) ?_
      refine ed i (by omega) ?_
      refine br_f (nI_nle hc.1 (by omega)) ?_
      refine br_f (nI_nlt hc.2.1 (by omega)) ?_
      rw [pk_sub hc.2.1, zp_cell]
      refine And.intro (vp_in_nI (by omega) (by omega)) ?_
      exact zb_f (by omega) hc.2.2 (h1 hK)
    · intro m i hi h
      exact cont m i (by omega) (of_decide_eq_false (g2 i hi)) h
  · refine zp_l0 (fun m i => wY_arrives_3 post (nI a) (nI t) (nI v) (nI n) (nI l) (nI L) (nI s) (zd_sf up fl) co D.1 D.2.1 D.2.2 us (zd_pk sd rc og ps pa pb) mk cm wk m (nI i)) n ?_ ?_
    · intro m
      refine br_t (nI_le (Nat.le_refl n) (by omega)) (h0 ?_)
      intro hK
      obtain ⟨u, hu, hh⟩ := (zw_Ks ht0).mp hK
      exact (of_decide_eq_false (g2 u (by omega))) ((hiff u hu).mpr hh)
    · intro m i hi h
      exact cont m i hi (of_decide_eq_false (g2 i (by omega))) h
theorem zw_T_up {e : Nat → Nat → Nat} {f t v : Nat} {b : Int32} (hn : n ≤ 8) (hv : v < n) (hT : zw_T n e f t v wk) (hb : ¬ b = 0 ↔ zw_K n e f t v) : zw_T n e f t (v + 1) (upd wk (t * 8 + v) b) := by
  intro t' v' hv' h
  by_cases hh : t' = t ∧ v' = v
  · obtain ⟨h1, h2⟩ := hh
    subst h1 h2
    rw [pk_us]; exact hb
  · rw [pk_un (by omega)]
    exact hT t' v' hv' (by omega)
theorem zy_l13 {post : Int32 → SY → Prop} {J : Int32 → (Nat → Int32) → (Nat → Int32) → (Nat → Int32) → (Nat → Int32) → (Nat → Int32) → (Nat → Int32) → (Nat → Int32) → (Nat → Int32) → (Nat → Int32) → (Nat → Int32) → Prop} {a f q t : Nat} (hk : zd_ok D) (hn : n ≤ 8) (ha : a < 8) (hq : q < n) (hf : f < n) (ht : t < 50) (hT : zw_T n (zw_e D.2.2 a) f t 0 wk)
    (hy : zw_K n (zw_e D.2.2 a) f t q → ∀ wk', post (nI t) (nI n, nI l, nI L, nI s, zd_sf up fl, co, D.1, D.2.1, D.2.2, us, zd_pk sd rc og ps pa pb, mk, cm, wk')) (hno : ¬ zw_K n (zw_e D.2.2 a) f t q → ∀ wk', zw_T n (zw_e D.2.2 a) f (t + 1) 0 wk' → J (nI (t + 1)) (zd_sf up fl) co D.1 D.2.1 D.2.2 us (zd_pk sd rc og ps pa pb) mk cm wk') :
    ∃ m, wY_least_13 post J (nI a) (nI f) (nI q) (nI t) (nI n) (nI l) (nI L) (nI s) m 0 (zd_sf up fl) co D.1 D.2.1 D.2.2 us (zd_pk sd rc og ps pa pb) mk cm wk := by
  have go : ∃ m, ∀ wk, zw_T n (zw_e D.2.2 a) f t 0 wk → wY_least_13 post J (nI a) (nI f) (nI q) (nI t) (nI n) (nI l) (nI L) (nI s) m (nI 0) (zd_sf up fl) co D.1 D.2.1 D.2.2 us (zd_pk sd rc og ps pa pb) mk cm wk := by
    refine zp_l0 (fun m i => ∀ wk, zw_T n (zw_e D.2.2 a) f t i wk → wY_least_13 post J (nI a) (nI f) (nI q) (nI t) (nI n) (nI l) (nI L) (nI s) m (nI i) (zd_sf up fl) co D.1 D.2.1 D.2.2 us (zd_pk sd rc og ps pa pb) mk cm wk) n ?_ ?_
    · intro m wk hT
      refine br_t (nI_le (Nat.le_refl n) (by omega)) ?_
      rw [zp_cell]
      refine And.intro (vp_in_nI (by omega) (by omega)) ?_
      have hc := hT t q hq (Or.inr ⟨rfl, hq⟩)
      by_cases hz : wk (t * 8 + q) = 0
      · refine zb_t (by omega) hz (nm_r (nI_1 t) (hno (fun z => (hc.mpr z) hz) wk ?_))
        intro t' v' hv' h
        exact hT t' v' hv' (by omega)
      · exact zb_f (by omega) hz (hy (hc.mp hz) wk)
    · intro m i hi h wk hT
      refine br_f (nI_ge hi (by omega)) ?_
      by_cases ht0 : t = 0
      · subst ht0
        refine br_t nI_0 ?_
        have hkk : ∀ b : Int32, (¬ b = 0 ↔ i = f) → wY_least_13 post J (nI a) (nI f) (nI q) (nI 0) (nI n) (nI l) (nI L) (nI s) m (nI (i + 1)) (zd_sf up fl) co D.1 D.2.1 D.2.2 us (zd_pk sd rc og ps pa pb) mk cm (upd wk i b) := by
          intro b hb
          have h2 := h (upd wk (0 * 8 + i) b) (zw_T_up hn hi hT (hb.trans zw_K0.symm))
          rw [Nat.zero_mul, Nat.zero_add] at h2
          exact h2
        by_cases hif : i = f
        · refine br_t (congrArg nI hif) (And.intro (vp_in_nI (by omega) (by omega)) ?_)
          refine nm_r (zp_un (by omega) zp_n1) ?_
          exact nm_r (nI_1 i) (hkk 1 ⟨fun _ => hif, fun _ => zp_10⟩)
        · refine br_f (zp_ne (by omega) (by omega) hif) (And.intro (vp_in_nI (by omega) (by omega)) ?_)
          refine nm_r (zp_un (by omega) zp_n0) ?_
          exact nm_r (nI_1 i) (hkk 0 ⟨fun z => absurd rfl z, fun z => absurd z hif⟩)
      · refine br_f (nI_ne0 (by omega) (by omega)) ?_
        refine zy_arrives (f := f) hk hn ha hi (by omega) ht hT (fun hK => ?_) (fun hK => ?_)
        · rw [zp_cell]
          refine And.intro (vp_in_nI (by omega) (by omega)) ?_
          refine nm_r (zp_un (by omega) zp_n1) ?_
          exact nm_r (nI_1 i) (h _ (zw_T_up hn hi hT ⟨fun _ => hK, fun _ => zp_10⟩))
        · rw [zp_cell]
          refine And.intro (vp_in_nI (by omega) (by omega)) ?_
          refine nm_r (zp_un (by omega) zp_n0) ?_
          exact nm_r (nI_1 i) (h _ (zw_T_up hn hi hT ⟨fun z => absurd rfl z, fun z => absurd z hK⟩))
  obtain ⟨m, h⟩ := go
  exact ⟨m, h wk hT⟩
theorem zy_least {post : Int32 → SY → Prop} {a f q : Nat} (hk : zd_ok D) (hn : n ≤ 8) (ha : a < 8) (hq : q < n) (hf : f < n) (hp : ∀ r wk', zw_L n (zw_e D.2.2 a) f q r → post r (nI n, nI l, nI L, nI s, zd_sf up fl, co, D.1, D.2.1, D.2.2, us, zd_pk sd rc og ps pa pb, mk, cm, wk')) : wpY_least post (nI n, nI l, nI L, nI s, zd_sf up fl, co, D.1, D.2.1, D.2.2, us, zd_pk sd rc og ps pa pb, mk, cm, wk) (nI a) (nI f) (nI q) := by
  have cont : ∀ m t, t < 50 → ¬ zw_K n (zw_e D.2.2 a) f t q → (∀ wk, zw_T n (zw_e D.2.2 a) f (t + 1) 0 wk → wY_least_3 post (nI a) (nI f) (nI q) (nI n) (nI l) (nI L) (nI s) m (nI (t + 1)) (zd_sf up fl) co D.1 D.2.1 D.2.2 us (zd_pk sd rc og ps pa pb) mk cm wk) → ∀ wk, zw_T n (zw_e D.2.2 a) f t 0 wk → wY_least_3 post (nI a) (nI f) (nI q) (nI n) (nI l) (nI L) (nI s) (m + 1) (nI t) (zd_sf up fl) co D.1 D.2.1 D.2.2 us (zd_pk sd rc og ps pa pb) mk cm wk := by
    intro m t ht hK h wk hT
    refine br_f (nI_ge (b := 50) ht (by omega)) ?_
    exact zy_l13 hk hn ha hq hf ht hT (fun z => absurd z hK) (fun _ wk' hT' => h wk' hT')
  have hT0 : zw_T n (zw_e D.2.2 a) f 0 0 wk := fun t' v' _ h => by omega
  by_cases hex : ∃ t, t < 50 ∧ zw_K n (zw_e D.2.2 a) f t q
  · obtain ⟨k, ⟨hk50, hKk⟩, hmin⟩ := pk_least (fun t => t < 50 ∧ zw_K n (zw_e D.2.2 a) f t q) hex
    have go : ∃ m, ∀ wk, zw_T n (zw_e D.2.2 a) f 0 0 wk → wY_least_3 post (nI a) (nI f) (nI q) (nI n) (nI l) (nI L) (nI s) m (nI 0) (zd_sf up fl) co D.1 D.2.1 D.2.2 us (zd_pk sd rc og ps pa pb) mk cm wk := by
      refine zp_l0 (fun m t => ∀ wk, zw_T n (zw_e D.2.2 a) f t 0 wk → wY_least_3 post (nI a) (nI f) (nI q) (nI n) (nI l) (nI L) (nI s) m (nI t) (zd_sf up fl) co D.1 D.2.1 D.2.2 us (zd_pk sd rc og ps pa pb) mk cm wk) k ?_ ?_
      · intro m wk hT
        refine br_f (nI_ge (b := 50) hk50 (by omega)) ?_
        exact zy_l13 hk hn ha hq hf hk50 hT (fun _ wk' => hp _ _ (Or.inr ⟨k, hk50, rfl, hKk, fun t ht z => hmin t ht ⟨by omega, z⟩⟩)) (fun z => absurd hKk z)
      · intro m t ht h
        exact cont m t (by omega) (fun z => hmin t ht ⟨by omega, z⟩) h
    obtain ⟨m, h⟩ := go
    exact ⟨m, h wk hT0⟩
  · have go : ∃ m, ∀ wk, zw_T n (zw_e D.2.2 a) f 0 0 wk → wY_least_3 post (nI a) (nI f) (nI q) (nI n) (nI l) (nI L) (nI s) m (nI 0) (zd_sf up fl) co D.1 D.2.1 D.2.2 us (zd_pk sd rc og ps pa pb) mk cm wk := by
      refine zp_l0 (fun m t => ∀ wk, zw_T n (zw_e D.2.2 a) f t 0 wk → wY_least_3 post (nI a) (nI f) (nI q) (nI n) (nI l) (nI L) (nI s) m (nI t) (zd_sf up fl) co D.1 D.2.1 D.2.2 us (zd_pk sd rc og ps pa pb) mk cm wk) 50 ?_ ?_
      · intro m wk hT
        exact br_t (nI_le (a := 50) (b := 50) (by omega) (by omega)) (hp _ _ (Or.inl ⟨rfl, fun t ht z => hex ⟨t, ht, z⟩⟩))
      · intro m t ht h
        exact cont m t ht (fun z => hex ⟨t, ht, z⟩) h
    obtain ⟨m, h⟩ := go
    exact ⟨m, h wk hT0⟩
end
end
section
/- what is kept; send's and quiet's loops -/
theorem zp_ok_cr {D : zd_DB} {r : Nat} (h : zd_ok D) : ∀ k, zd_ok (zd_cr D r k) := by
  intro k
  induction k with
  | zero => exact h
  | succ k ih => exact zp_ok_st ih Int32.le_rfl Int32.le_rfl
theorem zp_ok_rv {D : zd_DB} {c : Nat → Bool} (h : zd_ok D) : ∀ k, zd_ok (zd_rv c D k).1 := by
  intro k
  induction k with
  | zero => exact h
  | succ k ih =>
    unfold zd_rv
    by_cases e : c k = true
    · rw [if_pos e]; exact zp_ok_st ih Int32.le_rfl Int32.le_rfl
    · rw [if_neg e]; exact ih
theorem zp_ok_ac {D : zd_DB} {L : Nat} (h : zd_ok D) : ∀ k, zd_ok (zd_ac L D k) := by
  intro k
  induction k with
  | zero => exact h
  | succ k ih =>
    unfold zd_ac
    by_cases h1 : (zd_ac L D k).1 k = 0
    · rw [if_pos h1]; exact ih
    · rw [if_neg h1]
      by_cases h2 : nI L ≤ (zd_ac L D k).2.1 k
      · rw [if_pos h2]; exact ih
      · rw [if_neg h2]
        by_cases h3 : (zd_ac L D k).2.1 k + 1 = nI L
        · rw [if_pos h3]
          intro i
          refine ⟨(ih i).1, ?_⟩
          show 0 ≤ upd (zd_ac L D k).2.2 k 0 i
          by_cases e : i = k
          · rw [e, pk_us]; exact Int32.le_rfl
          · rw [pk_un e]; exact (ih i).2
        · rw [if_neg h3]; exact fun i => ⟨(ih i).1, (ih i).2⟩
theorem zp_ok_rf {n l L : Nat} {fl co : Nat → Int32} {D : zd_DB} (h : zd_ok D) (hc : zd_co co) (hn : n ≤ 8) (hl : l ≤ 60) : ∀ k, zd_ok (zd_rf n l L fl co D k) := by
  intro k
  induction k with
  | zero => exact h
  | succ k ih =>
    unfold zd_rf
    by_cases e : zd_rn L (zd_rf n l L fl co D k) k = true
    · rw [if_pos e]; exact zp_ok_og ih hc hn hl
    · rw [if_neg e]; exact ih
theorem zp_ap {L : Nat} {us pa pb : Nat → Int32} (h : ∀ i, 0 ≤ pb i) : ∀ k i, 0 ≤ (zd_ap L us pa pb k).2 i := by
  intro k
  induction k with
  | zero => exact h
  | succ k ih =>
    unfold zd_ap
    by_cases h1 : us k = 0
    · rw [if_pos h1]; exact ih
    · rw [if_neg h1]
      by_cases h2 : nI L ≤ (zd_ap L us pa pb k).1 k
      · rw [if_pos h2]; exact ih
      · rw [if_neg h2]
        by_cases h3 : (zd_ap L us pa pb k).1 k + 1 = nI L
        · rw [if_pos h3]
          intro i
          show 0 ≤ upd (zd_ap L us pa pb k).2 k 0 i
          by_cases e : i = k
          · rw [e, pk_us]; exact Int32.le_rfl
          · rw [pk_un e]; exact ih i
        · rw [if_neg h3]; exact ih
theorem zp_co_up {co : Nat → Int32} {i c : Nat} (h : zd_co co) (hc : c ≤ 7) : zd_co (upd co i (nI c)) := by
  intro j
  by_cases e : j = i
  · rw [e, pk_us]; exact ⟨c, hc, rfl⟩
  · rw [pk_un e]; exact h j
/-- clamped -/
def zd_cl (v : Int32) (a b : Nat) : Nat := if nI a ≤ v then (if v ≤ nI b then v.toNatClampNeg else b) else a
theorem zp_cl {v : Int32} {a b : Nat} (hab : a ≤ b) (hb : b < 2 ^ 31) : a ≤ zd_cl v a b ∧ zd_cl v a b ≤ b := by
  unfold zd_cl
  by_cases h1 : nI a ≤ v
  · rw [if_pos h1]
    by_cases h2 : v ≤ nI b
    · rw [if_pos h2]
      obtain ⟨h3, h4⟩ := zp_nat (Int32.le_trans (nI_pos' (show a < 2 ^ 31 by omega)) h1)
      rw [h4, nI_leI (by omega) (by omega)] at h1
      rw [h4, nI_leI (by omega) (by omega)] at h2
      rw [h4, nI_clamp h3]
      exact ⟨h1, h2⟩
    · rw [if_neg h2]; exact ⟨hab, Nat.le_refl _⟩
  · rw [if_neg h1]; exact ⟨Nat.le_refl _, hab⟩
theorem zp_clv {v : Int32} {a b : Nat} (ha : a < 2 ^ 31) {post : Int32 → Prop} (hp : post (nI (zd_cl v a b))) : ((nI a ≤ v → (((v ≤ nI b → (post v)) ∧ (¬ v ≤ nI b → (post (nI b)))))) ∧ (¬ nI a ≤ v → (post (nI a)))) := by
  unfold zd_cl at hp
  by_cases h1 : nI a ≤ v
  · rw [if_pos h1] at hp
    refine br_t h1 ?_
    by_cases h2 : v ≤ nI b
    · rw [if_pos h2] at hp
      obtain ⟨h3, h4⟩ := zp_nat (Int32.le_trans (nI_pos' ha) h1)
      rw [← h4] at hp
      exact br_t h2 hp
    · rw [if_neg h2] at hp; exact br_f h2 hp
  · rw [if_neg h1] at hp; exact br_f h1 hp
/-- the first own copies -/
def zd_s0 : Nat → Nat → Int32
  | 0 => fun _ => 0
  | k + 1 => upd (zd_s0 k) (k * 8 + k) 1
theorem zp_s0 : ∀ k i, 0 ≤ zd_s0 k i := by
  intro k
  induction k with
  | zero => intro i; exact Int32.le_rfl
  | succ k ih =>
    intro i
    show 0 ≤ upd (zd_s0 k) (k * 8 + k) 1 i
    by_cases e : i = k * 8 + k
    · rw [e, pk_us]; decide
    · rw [pk_un e]; exact ih i
theorem zp_sf00 : zd_sf (fun _ => 0) (fun _ => 0) = fun _ => 0 := by
  funext i; exact if_pos rfl
theorem zp_pk00' : zd_pk (fun _ => 0) (fun _ => 0) (fun _ => 0) (fun _ => 0) (fun _ => 0) (fun _ => 0) = fun _ => 0 := by
  funext j
  unfold zd_pk
  by_cases h0 : j % 6 = 0
  · rw [if_pos h0]
  rw [if_neg h0]
  by_cases h1 : j % 6 = 1
  · rw [if_pos h1]
  rw [if_neg h1]
  by_cases h2 : j % 6 = 2
  · rw [if_pos h2]
  rw [if_neg h2]
  by_cases h3 : j % 6 = 3
  · rw [if_pos h3]
  rw [if_neg h3]
  by_cases h4 : j % 6 = 4
  · rw [if_pos h4]
  rw [if_neg h4]
/-- not quiet at a, b -/
def zd_q (n L : Nat) (up fl : Nat → Int32) (D : zd_DB) (a b : Nat) : Bool := decide (¬ up (a * 8 + b) = 0 ∧ fl (a * 8 + b) = 0) || (decide (¬ D.1 (a * 8 + b) = 0 ∧ D.2.1 (a * 8 + b) = nI L) || decide (a ≠ b ∧ ¬ up (a * 8 + b) = 0 ∧ ¬ zd_ow (fun o => zd_nw (nI L) (D.1 (a * 8 + o)) (D.2.1 (a * 8 + o)) (D.2.2 (a * 8 + o)) (D.1 (b * 8 + o)) (D.2.1 (b * 8 + o)) (D.2.2 (b * 8 + o))) n = 0))
section
variable {n l L s : Nat} {D : zd_DB} {up fl co us sd rc og ps pa pb rm ds se : Nat → Int32}
theorem zx_owedQ {post : Int32 → Prop} {a b : Nat} (hn : n ≤ 8) (ha : a < n) (hb : b < n) {P : Prop} (h1 : a ≠ b ∧ ¬ up (a * 8 + b) = 0 ∧ ¬ zd_ow (fun o => zd_nw (nI L) (D.1 (a * 8 + o)) (D.2.1 (a * 8 + o)) (D.2.2 (a * 8 + o)) (D.1 (b * 8 + o)) (D.2.1 (b * 8 + o)) (D.2.2 (b * 8 + o))) n = 0 → post 0) (h0 : ¬ (a ≠ b ∧ ¬ up (a * 8 + b) = 0 ∧ ¬ zd_ow (fun o => zd_nw (nI L) (D.1 (a * 8 + o)) (D.2.1 (a * 8 + o)) (D.2.2 (a * 8 + o)) (D.1 (b * 8 + o)) (D.2.1 (b * 8 + o)) (D.2.2 (b * 8 + o))) n = 0) → P) : wpX_owed (fun r => (r = 0 → P) ∧ (¬ r = 0 → post 0)) (nI n, nI l, nI L, nI s, D.1, D.2.1, D.2.2, up, fl, co, us, sd, rc, og, ps, pa, pb, rm, ds, se) (nI a) (nI b) := by
  by_cases hab : a = b
  · refine zx_owedn hn (fun z => ?_) (br_t rfl (h0 (fun z => z.1 hab)))
    obtain ⟨c, d, hc, hd, hcd, e1, e2⟩ := z
    rw [nI_eq (by omega) (by omega)] at e1 e2
    omega
  by_cases hu : up (a * 8 + b) = 0
  · exact zx_owed0 hn ha hb hab hu (br_t rfl (h0 (fun z => z.2.1 hu)))
  refine zx_owed hn ha hb hab hu ?_
  exact br_c (fun z => h0 (fun y => y.2.2 z)) (fun z => h1 ⟨hab, hu, z⟩)
theorem zx_quietC {post : Int32 → Prop} {J : Int32 → Prop} {a b k : Nat} (hn : n ≤ 8) (ha : a < n) (hb : b < n) (h1 : zd_q n L up fl D a b = true → post 0) (h0 : zd_q n L up fl D a b = false → wX_quiet_39 post J (nI a) (nI n) (nI l) (nI L) (nI s) D.1 D.2.1 D.2.2 up fl co us sd rc og ps pa pb rm ds se k (nI (b + 1))) : wX_quiet_39 post J (nI a) (nI n) (nI l) (nI L) (nI s) D.1 D.2.1 D.2.2 up fl co us sd rc og ps pa pb rm ds se (k + 1) (nI b) := by
  unfold zd_q at h1 h0
  refine br_f (nI_ge hb (by omega)) ?_
  refine zx_cell a b ?_
  refine zx_isOpen (by omega) ?_
  refine zb_b (fun e1 => ?_) (fun e1 => h1 (by rw [e1]; rfl))
  refine zx_isPurged (by omega) ?_
  refine zb_b (fun e2 => ?_) (fun e2 => h1 (by rw [e2, Bool.true_or, Bool.or_true]))
  refine zx_owedQ hn ha hb (fun e3 => h1 (by rw [decide_eq_true e3, Bool.or_true, Bool.or_true])) (fun e3 => ?_)
  exact nm_r (nI_1 b) (h0 (by rw [e1, e2, decide_eq_false e3]; rfl))
theorem zx_quietR {post : Int32 → Prop} (hn : n ≤ 8) (hq : ∀ i, i < s → us i = 0) (hs : s ≤ 16) (hp : ∃ m, wX_quiet_29 post (nI n) (nI l) (nI L) (nI s) D.1 D.2.1 D.2.2 up fl co us sd rc og ps pa pb rm ds se m 0) : wpX_quiet post (nI n, nI l, nI L, nI s, D.1, D.2.1, D.2.2, up, fl, co, us, sd, rc, og, ps, pa, pb, rm, ds, se) := by
  refine zp_l0 (fun m i => wX_quiet_2 post (nI n) (nI l) (nI L) (nI s) D.1 D.2.1 D.2.2 up fl co us sd rc og ps pa pb rm ds se m (nI i)) s ?_ ?_
  · intro m
    exact br_t (nI_le (Nat.le_refl s) (by omega)) hp
  · intro m i hi h
    refine br_f (nI_ge hi (by omega)) (And.intro (vp_in_nI (by omega) (by omega)) ?_)
    exact zb_t (by omega) (hq i hi) (nm_r (nI_1 i) h)
theorem zx_quiet1 {post : Int32 → Prop} (hn : n ≤ 8) (hs : s ≤ 16) (hq : ∀ i, i < s → us i = 0) (hc : ∀ a b, a < n → b < n → zd_q n L up fl D a b = false) (hp : post 1) : wpX_quiet post (nI n, nI l, nI L, nI s, D.1, D.2.1, D.2.2, up, fl, co, us, sd, rc, og, ps, pa, pb, rm, ds, se) := by
  refine zx_quietR hn hq hs ?_
  refine zp_l0 (fun m i => wX_quiet_29 post (nI n) (nI l) (nI L) (nI s) D.1 D.2.1 D.2.2 up fl co us sd rc og ps pa pb rm ds se m (nI i)) n ?_ ?_
  · intro m
    exact br_t (nI_le (Nat.le_refl n) (by omega)) hp
  · intro m a ha h
    refine br_f (nI_ge ha (by omega)) ?_
    refine zp_l0 (fun k b => wX_quiet_39 post (wX_quiet_29 post (nI n) (nI l) (nI L) (nI s) D.1 D.2.1 D.2.2 up fl co us sd rc og ps pa pb rm ds se m) (nI a) (nI n) (nI l) (nI L) (nI s) D.1 D.2.1 D.2.2 up fl co us sd rc og ps pa pb rm ds se k (nI b)) n ?_ ?_
    · intro k
      exact br_t (nI_le (Nat.le_refl n) (by omega)) (nm_r (nI_1 a) h)
    · intro k b hb g
      exact zx_quietC hn ha hb (fun e => absurd e (by rw [hc a b ha hb]; decide)) (fun _ => g)
theorem zx_quiet0 {post : Int32 → Prop} {A B : Nat} (hn : n ≤ 8) (hs : s ≤ 16) (hq : ∀ i, i < s → us i = 0) (hA : A < n) (hB : B < n) (hc : ∀ a b, a < A → b < n → zd_q n L up fl D a b = false) (hc2 : ∀ b, b < B → zd_q n L up fl D A b = false) (ht : zd_q n L up fl D A B = true) (hp : post 0) : wpX_quiet post (nI n, nI l, nI L, nI s, D.1, D.2.1, D.2.2, up, fl, co, us, sd, rc, og, ps, pa, pb, rm, ds, se) := by
  refine zx_quietR hn hq hs ?_
  refine zp_l0 (fun m i => wX_quiet_29 post (nI n) (nI l) (nI L) (nI s) D.1 D.2.1 D.2.2 up fl co us sd rc og ps pa pb rm ds se m (nI i)) A ?_ ?_
  · intro m
    refine br_f (nI_ge hA (by omega)) ?_
    refine zp_l0 (fun k b => wX_quiet_39 post (wX_quiet_29 post (nI n) (nI l) (nI L) (nI s) D.1 D.2.1 D.2.2 up fl co us sd rc og ps pa pb rm ds se m) (nI A) (nI n) (nI l) (nI L) (nI s) D.1 D.2.1 D.2.2 up fl co us sd rc og ps pa pb rm ds se k (nI b)) B ?_ ?_
    · intro k
      exact zx_quietC hn hA hB (fun _ => hp) (fun e => absurd e (by rw [ht]; decide))
    · intro k b hb g
      exact zx_quietC hn hA (by omega) (fun e => absurd e (by rw [hc2 b hb]; decide)) (fun _ => g)
  · intro m a ha h
    refine br_f (nI_ge (by omega) (by omega)) ?_
    refine zp_l0 (fun k b => wX_quiet_39 post (wX_quiet_29 post (nI n) (nI l) (nI L) (nI s) D.1 D.2.1 D.2.2 up fl co us sd rc og ps pa pb rm ds se m) (nI a) (nI n) (nI l) (nI L) (nI s) D.1 D.2.1 D.2.2 up fl co us sd rc og ps pa pb rm ds se k (nI b)) n ?_ ?_
    · intro k
      exact br_t (nI_le (Nat.le_refl n) (by omega)) (nm_r (nI_1 a) h)
    · intro k b hb g
      exact zx_quietC hn (by omega) hb (fun e => absurd e (by rw [hc a b ha hb]; decide)) (fun _ => g)
theorem zx_quietU {post : Int32 → Prop} {A : Nat} (hs : s ≤ 16) (hA : A < s) (hq : ∀ i, i < A → us i = 0) (hu : ¬ us A = 0) (hp : post 0) : wpX_quiet post (nI n, nI l, nI L, nI s, D.1, D.2.1, D.2.2, up, fl, co, us, sd, rc, og, ps, pa, pb, rm, ds, se) := by
  refine zp_l0 (fun m i => wX_quiet_2 post (nI n) (nI l) (nI L) (nI s) D.1 D.2.1 D.2.2 up fl co us sd rc og ps pa pb rm ds se m (nI i)) A ?_ ?_
  · intro m
    refine br_f (nI_ge hA (by omega)) (And.intro (vp_in_nI (by omega) (by omega)) ?_)
    exact zb_f (by omega) hu hp
  · intro m i hi h
    refine br_f (nI_ge (by omega) (by omega)) (And.intro (vp_in_nI (by omega) (by omega)) ?_)
    exact zb_t (by omega) (hq i hi) (nm_r (nI_1 i) h)
end
section
variable {n l L s : Nat} {D : zd_DB} {up fl co us sd rc og ps pa pb mk cm wk : Nat → Int32}
theorem zy_owedQ {post : Int32 → Prop} {a b : Nat} (hn : n ≤ 8) (ha : a < n) (hb : b < n) {P : Prop} (h1 : a ≠ b ∧ ¬ up (a * 8 + b) = 0 ∧ ¬ zd_ow (fun o => zd_nw (nI L) (D.1 (a * 8 + o)) (D.2.1 (a * 8 + o)) (D.2.2 (a * 8 + o)) (D.1 (b * 8 + o)) (D.2.1 (b * 8 + o)) (D.2.2 (b * 8 + o))) n = 0 → post 0) (h0 : ¬ (a ≠ b ∧ ¬ up (a * 8 + b) = 0 ∧ ¬ zd_ow (fun o => zd_nw (nI L) (D.1 (a * 8 + o)) (D.2.1 (a * 8 + o)) (D.2.2 (a * 8 + o)) (D.1 (b * 8 + o)) (D.2.1 (b * 8 + o)) (D.2.2 (b * 8 + o))) n = 0) → P) : wpY_owed (fun r => (r = 0 → P) ∧ (¬ r = 0 → post 0)) (nI n, nI l, nI L, nI s, zd_sf up fl, co, D.1, D.2.1, D.2.2, us, zd_pk sd rc og ps pa pb, mk, cm, wk) (nI a) (nI b) := by
  by_cases hab : a = b
  · refine zy_owedn hn (fun z => ?_) (br_t rfl (h0 (fun z => z.1 hab)))
    obtain ⟨c, d, hc, hd, hcd, e1, e2⟩ := z
    rw [nI_eq (by omega) (by omega)] at e1 e2
    omega
  by_cases hu : up (a * 8 + b) = 0
  · exact zy_owed0 hn ha hb hab hu (br_t rfl (h0 (fun z => z.2.1 hu)))
  refine zy_owed hn ha hb hab hu ?_
  exact br_c (fun z => h0 (fun y => y.2.2 z)) (fun z => h1 ⟨hab, hu, z⟩)
theorem zy_quietC {post : Int32 → Prop} {J : Int32 → Prop} {a b k : Nat} (hk : zd_ok D) (hn : n ≤ 8) (ha : a < n) (hb : b < n) (h1 : zd_q n L up fl D a b = true → post 0) (h0 : zd_q n L up fl D a b = false → wY_quiet_39 post J (nI a) (nI n) (nI l) (nI L) (nI s) (zd_sf up fl) co D.1 D.2.1 D.2.2 us (zd_pk sd rc og ps pa pb) mk cm wk k (nI (b + 1))) : wY_quiet_39 post J (nI a) (nI n) (nI l) (nI L) (nI s) (zd_sf up fl) co D.1 D.2.1 D.2.2 us (zd_pk sd rc og ps pa pb) mk cm wk (k + 1) (nI b) := by
  unfold zd_q at h1 h0
  refine br_f (nI_ge hb (by omega)) ?_
  rw [zp_cell]
  have hv : vp_in (nI (a * 8 + b)) 64 := vp_in_nI (by omega) (by omega)
  have c31 : a * 8 + b < 2 ^ 31 := by omega
  refine And.intro hv ?_
  by_cases e1 : ¬ up (a * 8 + b) = 0 ∧ fl (a * 8 + b) = 0
  · exact zb_t c31 (zp_sf1.mpr e1) (h1 (by rw [decide_eq_true e1]; rfl))
  refine zb_f c31 (fun z => e1 (zp_sf1.mp z)) ?_
  refine zy_owedQ hn ha hb (fun e3 => h1 (by rw [decide_eq_true e3, Bool.or_true, Bool.or_true])) (fun e3 => ?_)
  refine And.intro hv ?_
  rw [nI_clamp c31]
  by_cases e4 : D.1 (a * 8 + b) = 0
  · refine br_t ((zp_le0 (hk _).1).mpr e4) ?_
    exact nm_r (nI_1 b) (h0 (by rw [decide_eq_false e1, decide_eq_false e3, decide_eq_false (fun z => z.1 e4)]; rfl))
  refine br_f (fun z => e4 ((zp_le0 (hk _).1).mp z)) (And.intro hv ?_)
  by_cases e5 : D.2.1 (a * 8 + b) = nI L
  · exact br_t e5 (h1 (by rw [decide_eq_true (⟨e4, e5⟩ : ¬ D.1 (a * 8 + b) = 0 ∧ D.2.1 (a * 8 + b) = nI L), Bool.true_or, Bool.or_true]))
  · refine br_f e5 ?_
    exact nm_r (nI_1 b) (h0 (by rw [decide_eq_false e1, decide_eq_false e3, decide_eq_false (fun z => e5 z.2)]; rfl))
theorem zy_quietR {post : Int32 → Prop} (hn : n ≤ 8) (hq : ∀ i, i < s → us i = 0) (hs : s ≤ 16) (hp : ∃ m, wY_quiet_29 post (nI n) (nI l) (nI L) (nI s) (zd_sf up fl) co D.1 D.2.1 D.2.2 us (zd_pk sd rc og ps pa pb) mk cm wk m 0) : wpY_quiet post (nI n, nI l, nI L, nI s, zd_sf up fl, co, D.1, D.2.1, D.2.2, us, zd_pk sd rc og ps pa pb, mk, cm, wk) := by
  refine zp_l0 (fun m i => wY_quiet_2 post (nI n) (nI l) (nI L) (nI s) (zd_sf up fl) co D.1 D.2.1 D.2.2 us (zd_pk sd rc og ps pa pb) mk cm wk m (nI i)) s ?_ ?_
  · intro m
    exact br_t (nI_le (Nat.le_refl s) (by omega)) hp
  · intro m i hi h
    refine br_f (nI_ge hi (by omega)) (And.intro (vp_in_nI (by omega) (by omega)) ?_)
    exact zb_t (by omega) (hq i hi) (nm_r (nI_1 i) h)
theorem zy_quiet1 {post : Int32 → Prop} (hk : zd_ok D) (hn : n ≤ 8) (hs : s ≤ 16) (hq : ∀ i, i < s → us i = 0) (hc : ∀ a b, a < n → b < n → zd_q n L up fl D a b = false) (hp : post 1) : wpY_quiet post (nI n, nI l, nI L, nI s, zd_sf up fl, co, D.1, D.2.1, D.2.2, us, zd_pk sd rc og ps pa pb, mk, cm, wk) := by
  refine zy_quietR hn hq hs ?_
  refine zp_l0 (fun m i => wY_quiet_29 post (nI n) (nI l) (nI L) (nI s) (zd_sf up fl) co D.1 D.2.1 D.2.2 us (zd_pk sd rc og ps pa pb) mk cm wk m (nI i)) n ?_ ?_
  · intro m
    exact br_t (nI_le (Nat.le_refl n) (by omega)) hp
  · intro m a ha h
    refine br_f (nI_ge ha (by omega)) ?_
    refine zp_l0 (fun k b => wY_quiet_39 post (wY_quiet_29 post (nI n) (nI l) (nI L) (nI s) (zd_sf up fl) co D.1 D.2.1 D.2.2 us (zd_pk sd rc og ps pa pb) mk cm wk m) (nI a) (nI n) (nI l) (nI L) (nI s) (zd_sf up fl) co D.1 D.2.1 D.2.2 us (zd_pk sd rc og ps pa pb) mk cm wk k (nI b)) n ?_ ?_
    · intro k
      exact br_t (nI_le (Nat.le_refl n) (by omega)) (nm_r (nI_1 a) h)
    · intro k b hb g
      exact zy_quietC hk hn ha hb (fun e => absurd e (by rw [hc a b ha hb]; decide)) (fun _ => g)
theorem zy_quiet0 {post : Int32 → Prop} {A B : Nat} (hk : zd_ok D) (hn : n ≤ 8) (hs : s ≤ 16) (hq : ∀ i, i < s → us i = 0) (hA : A < n) (hB : B < n) (hc : ∀ a b, a < A → b < n → zd_q n L up fl D a b = false) (hc2 : ∀ b, b < B → zd_q n L up fl D A b = false) (ht : zd_q n L up fl D A B = true) (hp : post 0) : wpY_quiet post (nI n, nI l, nI L, nI s, zd_sf up fl, co, D.1, D.2.1, D.2.2, us, zd_pk sd rc og ps pa pb, mk, cm, wk) := by
  refine zy_quietR hn hq hs ?_
  refine zp_l0 (fun m i => wY_quiet_29 post (nI n) (nI l) (nI L) (nI s) (zd_sf up fl) co D.1 D.2.1 D.2.2 us (zd_pk sd rc og ps pa pb) mk cm wk m (nI i)) A ?_ ?_
  · intro m
    refine br_f (nI_ge hA (by omega)) ?_
    refine zp_l0 (fun k b => wY_quiet_39 post (wY_quiet_29 post (nI n) (nI l) (nI L) (nI s) (zd_sf up fl) co D.1 D.2.1 D.2.2 us (zd_pk sd rc og ps pa pb) mk cm wk m) (nI A) (nI n) (nI l) (nI L) (nI s) (zd_sf up fl) co D.1 D.2.1 D.2.2 us (zd_pk sd rc og ps pa pb) mk cm wk k (nI b)) B ?_ ?_
    · intro k
      exact zy_quietC hk hn hA hB (fun _ => hp) (fun e => absurd e (by rw [ht]; decide))
    · intro k b hb g
      exact zy_quietC hk hn hA (by omega) (fun e => absurd e (by rw [hc2 b hb]; decide)) (fun _ => g)
  · intro m a ha h
    refine br_f (nI_ge (by omega) (by omega)) ?_
    refine zp_l0 (fun k b => wY_quiet_39 post (wY_quiet_29 post (nI n) (nI l) (nI L) (nI s) (zd_sf up fl) co D.1 D.2.1 D.2.2 us (zd_pk sd rc og ps pa pb) mk cm wk m) (nI a) (nI n) (nI l) (nI L) (nI s) (zd_sf up fl) co D.1 D.2.1 D.2.2 us (zd_pk sd rc og ps pa pb) mk cm wk k (nI b)) n ?_ ?_
    · intro k
      exact br_t (nI_le (Nat.le_refl n) (by omega)) (nm_r (nI_1 a) h)
    · intro k b hb g
      exact zy_quietC hk hn (by omega) hb (fun e => absurd e (by rw [hc a b ha hb]; decide)) (fun _ => g)
theorem zy_quietU {post : Int32 → Prop} {A : Nat} (hs : s ≤ 16) (hA : A < s) (hq : ∀ i, i < A → us i = 0) (hu : ¬ us A = 0) (hp : post 0) : wpY_quiet post (nI n, nI l, nI L, nI s, zd_sf up fl, co, D.1, D.2.1, D.2.2, us, zd_pk sd rc og ps pa pb, mk, cm, wk) := by
  refine zp_l0 (fun m i => wY_quiet_2 post (nI n) (nI l) (nI L) (nI s) (zd_sf up fl) co D.1 D.2.1 D.2.2 us (zd_pk sd rc og ps pa pb) mk cm wk m (nI i)) A ?_ ?_
  · intro m
    refine br_f (nI_ge hA (by omega)) (And.intro (vp_in_nI (by omega) (by omega)) ?_)
    exact zb_f (by omega) hu hp
  · intro m i hi h
    refine br_f (nI_ge (by omega) (by omega)) (And.intro (vp_in_nI (by omega) (by omega)) ?_)
    exact zb_t (by omega) (hq i hi) (nm_r (nI_1 i) h)
theorem zy_send1 {post : Int32 → SY → Prop} {a b o : Nat} (hs : s ≤ 16) (ha : a < 8) (ho : o < 8) (hq : zd_sr (fun i => decide (us i = 0)) 0 s < s)
    (hp : post (nI (zd_sr (fun i => decide (us i = 0)) 0 s)) (nI n, nI l, nI L, nI s, zd_sf up fl, co, D.1, D.2.1, D.2.2, upd us (zd_sr (fun i => decide (us i = 0)) 0 s) 1, zd_pk (upd sd (zd_sr (fun i => decide (us i = 0)) 0 s) (nI a)) (upd rc (zd_sr (fun i => decide (us i = 0)) 0 s) (nI b)) (upd og (zd_sr (fun i => decide (us i = 0)) 0 s) (nI o)) (upd ps (zd_sr (fun i => decide (us i = 0)) 0 s) (D.1 (a * 8 + o))) (upd pa (zd_sr (fun i => decide (us i = 0)) 0 s) (D.2.1 (a * 8 + o))) (upd pb (zd_sr (fun i => decide (us i = 0)) 0 s) (D.2.2 (a * 8 + o))), mk, cm, wk)) : ∃ m, wY_send_49 post (nI a) (nI b) (nI o) (nI n) (nI l) (nI L) (nI s) (zd_sf up fl) co D.1 D.2.1 D.2.2 us (zd_pk sd rc og ps pa pb) mk cm wk m 0 := by
  obtain ⟨h1, h2, h3⟩ := zp_sr0 (fun i => decide (us i = 0)) s
  refine zp_l0 (fun m i => wY_send_49 post (nI a) (nI b) (nI o) (nI n) (nI l) (nI L) (nI s) (zd_sf up fl) co D.1 D.2.1 D.2.2 us (zd_pk sd rc og ps pa pb) mk cm wk m (nI i)) (zd_sr (fun i => decide (us i = 0)) 0 s) ?_ ?_
  · intro m
    have hu := of_decide_eq_true (h3 hq)
    generalize zd_sr (fun i => decide (us i = 0)) 0 s = i at *
    have hv : vp_in (nI i) 16 := vp_in_nI (by omega) (by omega)
    have hw : vp_in (nI (a * 8 + o)) 64 := vp_in_nI (by omega) (by omega)
    refine br_f (nI_ge hq (by omega)) (And.intro hv ?_)
    refine zb_t (by omega) hu (And.intro hv ?_)
    refine nm_r (zp_un (by omega) zp_n1) ?_
    rw [zp_cell, zp_60, zp_61, zp_62, zp_63, zp_64, zp_65, nI_clamp (n := a * 8 + o) (by omega)]
    refine And.intro hw (And.intro (vp_in_nI (by omega) (by omega)) ?_)
    refine nm_r ((zp_up (by omega)).trans (zp_pu0 i _)) ?_
    refine And.intro hw (And.intro (vp_in_nI (by omega) (by omega)) ?_)
    refine nm_r ((zp_up (by omega)).trans (zp_pu1 i _)) ?_
    refine And.intro hw (And.intro (vp_in_nI (by omega) (by omega)) ?_)
    refine nm_r ((zp_up (by omega)).trans (zp_pu2 i _)) ?_
    refine And.intro (vp_in_nI (by omega) (by omega)) ?_
    refine nm_r ((zp_up (by omega)).trans (zp_pu3 i _)) ?_
    refine And.intro (vp_in_nI (by omega) (by omega)) ?_
    refine nm_r ((zp_up (by omega)).trans (zp_pu4 i _)) ?_
    refine And.intro (vp_in_nI (by omega) (by omega)) ?_
    refine nm_r ((zp_up (by omega)).trans (zp_pu5 i _)) ?_
    exact hp
  · intro m i hi h
    refine br_f (nI_ge (by omega) (by omega)) (And.intro (vp_in_nI (by omega) (by omega)) ?_)
    exact zb_f (by omega) (of_decide_eq_false (h2 i hi)) (nm_r (nI_1 i) h)
theorem zy_send0 {post : Int32 → SY → Prop} {a b o : Nat} (hs : s ≤ 16) (hq : ¬ zd_sr (fun i => decide (us i = 0)) 0 s < s) (hp : post (-3) (nI n, nI l, nI L, nI s, zd_sf up fl, co, D.1, D.2.1, D.2.2, us, zd_pk sd rc og ps pa pb, mk, cm, wk)) : ∃ m, wY_send_49 post (nI a) (nI b) (nI o) (nI n) (nI l) (nI L) (nI s) (zd_sf up fl) co D.1 D.2.1 D.2.2 us (zd_pk sd rc og ps pa pb) mk cm wk m 0 := by
  obtain ⟨h1, h2, h3⟩ := zp_sr0 (fun i => decide (us i = 0)) s
  refine zp_l0 (fun m i => wY_send_49 post (nI a) (nI b) (nI o) (nI n) (nI l) (nI L) (nI s) (zd_sf up fl) co D.1 D.2.1 D.2.2 us (zd_pk sd rc og ps pa pb) mk cm wk m (nI i)) s ?_ ?_
  · intro m
    exact br_t (nI_le (Nat.le_refl s) (by omega)) hp
  · intro m i hi h
    refine br_f (nI_ge (by omega) (by omega)) (And.intro (vp_in_nI (by omega) (by omega)) ?_)
    exact zb_f (by omega) (of_decide_eq_false (h2 i (by omega))) (nm_r (nI_1 i) h)
end
end
section
/- the relation -/
def zd_In (n l L s : Nat) (D : zd_DB) (up fl co rc og ps pb rm : Nat → Int32) : Prop :=
  (n ≤ 8 ∧ l ≤ 60 ∧ L ≤ 30 ∧ s ≤ 16 ∧ 2 ≤ n) ∧ zd_ok D ∧ zd_co co ∧ zd_lk up fl ∧
  (∀ i, (∃ r : Nat, r < n ∧ rc i = nI r) ∧ (∃ o : Nat, o < n ∧ og i = nI o) ∧ 0 ≤ ps i ∧ 0 ≤ pb i) ∧
  (∀ h, n ≤ h / 8 ∨ n ≤ h % 8 → rm h = 0)
/-- the relation at the head of a turn -/
def i_Rel (k : Nat) (u : SX) (v : SY) : Prop :=
  ∃ (n l L s : Nat) (D : zd_DB) (up fl co us sd rc og ps pa pb rm ds se mk cm wk : Nat → Int32),
    zd_In n l L s D up fl co rc og ps pb rm ∧ u = (nI n, nI l, nI L, nI s, D.1, D.2.1, D.2.2, up, fl, co, us, sd, rc, og, ps, pa, pb, rm, ds, se) ∧ v = (nI n, nI l, nI L, nI s, zd_sf up fl, co, D.1, D.2.1, D.2.2, us, zd_pk sd rc og ps pa pb, mk, cm, wk)
theorem i_up {k : Nat} {u : SX} {v : SY} (h : i_Rel k u v) : i_Rel (k + 4) u v := h
theorem zz_el {k : Nat} {u : SX} {v : SY} {P : SX → SY → Prop} (h : ∀ (n l L s : Nat) (D : zd_DB) (up fl co us sd rc og ps pa pb rm ds se mk cm wk : Nat → Int32), zd_In n l L s D up fl co rc og ps pb rm → P (nI n, nI l, nI L, nI s, D.1, D.2.1, D.2.2, up, fl, co, us, sd, rc, og, ps, pa, pb, rm, ds, se) (nI n, nI l, nI L, nI s, zd_sf up fl, co, D.1, D.2.1, D.2.2, us, zd_pk sd rc og ps pa pb, mk, cm, wk)) (I : i_Rel k u v) : P u v :=
  Exists.elim I fun n I => Exists.elim I fun l I => Exists.elim I fun L I => Exists.elim I fun s I => Exists.elim I fun D I =>
  Exists.elim I fun up I => Exists.elim I fun fl I => Exists.elim I fun co I => Exists.elim I fun us I => Exists.elim I fun sd I => Exists.elim I fun rc I => Exists.elim I fun og I => Exists.elim I fun ps I => Exists.elim I fun pa I => Exists.elim I fun pb I => Exists.elim I fun rm I => Exists.elim I fun ds I => Exists.elim I fun se I => Exists.elim I fun mk I => Exists.elim I fun cm I => Exists.elim I fun wk I => by
    rw [I.2.1, I.2.2]
    exact h n l L s D up fl co us sd rc og ps pa pb rm ds se mk cm wk I.1
section
variable {n l L s : Nat} {D : zd_DB} {up fl co us sd rc og ps pa pb rm ds se mk cm wk : Nat → Int32}
theorem zz_in {k : Nat} (h : zd_In n l L s D up fl co rc og ps pb rm) : i_Rel k (nI n, nI l, nI L, nI s, D.1, D.2.1, D.2.2, up, fl, co, us, sd, rc, og, ps, pa, pb, rm, ds, se) (nI n, nI l, nI L, nI s, zd_sf up fl, co, D.1, D.2.1, D.2.2, us, zd_pk sd rc og ps pa pb, mk, cm, wk) :=
  ⟨n, l, L, s, D, up, fl, co, us, sd, rc, og, ps, pa, pb, rm, ds, se, mk, cm, wk, h, rfl, rfl⟩
end
section
variable {f1 f2 f3 f4 : Int32} {a1 a2 a3 a4 a5 a6 a7 a8 a9 a10 a11 a12 a13 a14 a15 a16 : Nat → Int32}
theorem zx_clamp {v : Int32} {a b : Nat} (ha : a < 2 ^ 31) {post : Int32 → Prop} (hp : post (nI (zd_cl v a b))) : wpX_clamp post (f1, f2, f3, f4, a1, a2, a3, a4, a5, a6, a7, a8, a9, a10, a11, a12, a13, a14, a15, a16) v (nI a) (nI b) := zp_clv ha hp
theorem zy_clamp {v : Int32} {a b : Nat} (ha : a < 2 ^ 31) {post : Int32 → Prop} (hp : post (nI (zd_cl v a b))) : wpY_clamp post (f1, f2, f3, f4, a1, a2, a3, a4, a5, a6, a7, a8, a9, a10) v (nI a) (nI b) := zp_clv ha hp
end
theorem i_vc0 (k0 : Int32) (k1 : Int32) (k2 : Int32) (k3 : Int32) : wpX_init (fun u => wpY_init (fun v => i_Rel 4 u v) k0 k1 k2 k3) k0 k1 k2 k3 := by
  obtain ⟨a1, a2⟩ := zp_cl (v := k0) (a := 2) (b := 8) (by omega) (by omega)
  obtain ⟨b1, b2⟩ := zp_cl (v := k1) (a := 2) (b := 60) (by omega) (by omega)
  obtain ⟨c1, c2⟩ := zp_cl (v := k2) (a := 4) (b := 30) (by omega) (by omega)
  obtain ⟨d1, d2⟩ := zp_cl (v := k3) (a := 1) (b := 16) (by omega) (by omega)
  unfold wpX_init
  refine zx_clamp (a := 2) (b := 8) (by omega) ?_
  refine zx_clamp (a := 2) (b := 60) (by omega) ?_
  refine zx_clamp (a := 4) (b := 30) (by omega) ?_
  refine zx_clamp (a := 1) (b := 16) (by omega) ?_
  have y : ∀ (u : SX), (∀ v : SY, v = (nI (zd_cl k0 2 8), nI (zd_cl k1 2 60), nI (zd_cl k2 4 30), nI (zd_cl k3 1 16), (fun _ => 0), (fun _ => 0), zd_s0 (zd_cl k0 2 8), (fun _ => 0), (fun _ => 0), (fun _ => 0), (fun _ => 0), (fun _ => 0), (fun _ => 0), (fun _ => 0)) → i_Rel 4 u v) → wpY_init (fun v => i_Rel 4 u v) k0 k1 k2 k3 := by
    intro u hv
    unfold wpY_init
    refine zy_clamp (a := 2) (b := 8) (by omega) ?_
    refine zy_clamp (a := 2) (b := 60) (by omega) ?_
    refine zy_clamp (a := 4) (b := 30) (by omega) ?_
    refine zy_clamp (a := 1) (b := 16) (by omega) ?_
    generalize zd_cl k0 2 8 = n at *
    generalize zd_cl k1 2 60 = l at *
    generalize zd_cl k2 4 30 = L at *
    generalize zd_cl k3 1 16 = s at *
    refine zp_l0 (fun m i => wY_init_137 (fun v => i_Rel 4 u v) (nI n) (nI l) (nI L) (nI s) m (nI i) (fun _ => 0) (fun _ => 0) (zd_s0 i) (fun _ => 0) (fun _ => 0) (fun _ => 0) (fun _ => 0) (fun _ => 0) (fun _ => 0) (fun _ => 0)) n ?_ ?_
    · intro m
      exact br_t (nI_le (Nat.le_refl n) (by omega)) (hv _ rfl)
    · intro m i hi h
      refine br_f (nI_ge hi (by omega)) ?_
      rw [zp_cell]
      refine And.intro (vp_in_nI (by omega) (by omega)) ?_
      refine nm_r (zp_up (by omega)) ?_
      exact nm_r (nI_1 i) h
  generalize zd_cl k0 2 8 = n at *
  generalize zd_cl k1 2 60 = l at *
  generalize zd_cl k2 4 30 = L at *
  generalize zd_cl k3 1 16 = s at *
  refine zp_l0 (fun m i => wX_init_184 (fun u => wpY_init (fun v => i_Rel 4 u v) k0 k1 k2 k3) (nI n) (nI l) (nI L) (nI s) m (nI i) (zd_s0 i) (fun _ => 0) (fun _ => 0) (fun _ => 0) (fun _ => 0) (fun _ => 0) (fun _ => 0) (fun _ => 0) (fun _ => 0) (fun _ => 0) (fun _ => 0) (fun _ => 0) (fun _ => 0) (fun _ => 0) (fun _ => 0) (fun _ => 0)) n ?_ ?_
  · intro m
    refine br_t (nI_le (Nat.le_refl n) (by omega)) (y _ (fun v hv => ?_))
    have hok : zd_ok (zd_s0 n, (fun _ => 0), (fun _ => 0)) := fun i => ⟨zp_s0 n i, Int32.le_rfl⟩
    have hIn : zd_In n l L s (zd_s0 n, (fun _ => 0), (fun _ => 0)) (fun _ => 0) (fun _ => 0) (fun _ => 0) (fun _ => 0) (fun _ => 0) (fun _ => 0) (fun _ => 0) (fun _ => 0) :=
      ⟨⟨a2, b2, c2, d2, a1⟩, hok, fun i => ⟨0, by omega, nI_0.symm⟩, ⟨fun i h => absurd rfl h, fun a b _ _ => rfl, fun a b _ _ => rfl⟩, fun i => ⟨⟨0, by omega, nI_0.symm⟩, ⟨0, by omega, nI_0.symm⟩, Int32.le_rfl, Int32.le_rfl⟩, fun h _ => rfl⟩
    exact ⟨n, l, L, s, (zd_s0 n, (fun _ => 0), (fun _ => 0)), (fun _ => 0), (fun _ => 0), (fun _ => 0), (fun _ => 0), (fun _ => 0), (fun _ => 0), (fun _ => 0), (fun _ => 0), (fun _ => 0), (fun _ => 0), (fun _ => 0), (fun _ => 0), (fun _ => 0), (fun _ => 0), (fun _ => 0), (fun _ => 0), hIn, rfl, hv.trans (by simp only [zp_sf00, zp_pk00'])⟩
  · intro m i hi h
    refine br_f (nI_ge hi (by omega)) ?_
    rw [zp_cell]
    refine And.intro (vp_in_nI (by omega) (by omega)) ?_
    refine nm_r (zp_up (by omega)) ?_
    exact nm_r (nI_1 i) h
end
section
/- owed, first half -/
theorem i_vc_raise {k : Nat} {u : SX} {v : SY} (I : i_Rel k u v) (hk : k + 4 ≤ 2052) (v1 : Int32) (v2 : Int32) (v3 : Int32) : wpX_raise (fun r u' => wpY_raise (fun r' v' => r' = r ∧ i_Rel (k + 4) u' v') v v1 v2 v3) u v1 v2 v3 := by
  refine zz_el (P := fun u v => wpX_raise (fun r u' => wpY_raise (fun r' v' => r' = r ∧ i_Rel (k + 4) u' v') v v1 v2 v3) u v1 v2 v3) ?_ I
  intro n l L s D up fl co us sd rc og ps pa pb rm ds se mk cm wk hI
  have hIn := hI
  obtain ⟨⟨hn, hl60, hL, hs, hn2⟩, hok, hco, hlk, hpk, hrm⟩ := hI
  by_cases hp : zd_pr n v1 v2
  rotate_left
  · unfold wpX_raise
    refine zx_vp0 hn hp ?_
    refine br_t rfl ?_
    unfold wpY_raise
    refine zy_bp1 hn hp ?_
    exact br_f zp_10 ⟨rfl, zz_in hIn⟩
  obtain ⟨a, b, ha, hb, hab, rfl, rfl⟩ := hp
  unfold wpX_raise
  refine zx_vp1 hn ha hb hab ?_
  refine br_f zp_10 ?_
  by_cases g1 : v3 < 1
  · refine br_t g1 ?_
    unfold wpY_raise
    refine zy_bp0 hn ha hb hab ?_
    exact br_t rfl (br_t g1 ⟨rfl, zz_in hIn⟩)
  refine br_f g1 ?_
  by_cases g2 : v3 ≤ 7
  rotate_left
  · refine br_f g2 ?_
    unfold wpY_raise
    refine zy_bp0 hn ha hb hab ?_
    exact br_t rfl (br_f g1 (br_f g2 ⟨rfl, zz_in hIn⟩))
  refine br_t g2 ?_
  obtain ⟨c, hc7, hc⟩ : ∃ c : Nat, c ≤ 7 ∧ v3 = nI c := nI_of2 (M := 7) (n := 7) (by decide) (fun z => g1 (Int32.lt_trans z (by decide))) g2
  have hv1 : vp_in (nI (a * 8 + b)) 64 := vp_in_nI (by omega) (by omega)
  have hv2 : vp_in (nI (b * 8 + a)) 64 := vp_in_nI (by omega) (by omega)
  have q1 : a * 8 + b < 2 ^ 31 := by omega
  have q2 : b * 8 + a < 2 ^ 31 := by omega
  have hco1 : zd_co (upd co (a * 8 + b) v3) := by rw [hc]; exact zp_co_up hco hc7
  have hco2 : zd_co (upd (upd co (a * 8 + b) v3) (b * 8 + a) v3) := by rw [hc] at hco1 ⊢; exact zp_co_up hco1 hc7
  refine zx_cell a b ?_
  refine zx_cell b a ?_
  refine And.intro hv1 ?_
  by_cases hu : up (a * 8 + b) = 0
  · refine zb_t q1 hu (And.intro hv1 ?_)
    refine nm_r (zp_un q1 zp_n1) ?_
    refine And.intro hv2 ?_
    refine nm_r (zp_un q2 zp_n1) ?_
    refine And.intro hv1 ?_
    refine nm_r (zp_up q1) ?_
    refine And.intro hv2 ?_
    refine nm_r (zp_up q2) ?_
    have f1 : fl (a * 8 + b) = 0 := Classical.byContradiction (fun z => hlk.1 _ z hu)
    have f2 : fl (b * 8 + a) = 0 := by rw [← hlk.2.2 a b (by omega) (by omega)]; exact f1
    unfold wpY_raise
    refine zy_bp0 hn ha hb hab ?_
    refine br_t rfl (br_f g1 (br_t g2 ?_))
    rw [zp_cell, zp_cell]
    refine And.intro hv1 ?_
    refine zb_t q1 (zp_sf0.mpr hu) ?_
    refine zy_setLink (by omega) (by omega) ?_
    rw [zp_sf_up f1 f2]
    refine And.intro hv1 ?_
    refine nm_r (zp_up q1) ?_
    refine And.intro hv2 ?_
    refine nm_r (zp_up q2) ?_
    exact ⟨rfl, zz_in ⟨⟨hn, hl60, hL, hs, hn2⟩, hok, hco2, zp_lk_up hlk (by omega) (by omega), hpk, hrm⟩⟩
  refine zb_f q1 hu (And.intro hv1 ?_)
  have hst : ¬ zd_sf up fl (a * 8 + b) = 0 := fun z => hu (zp_sf0.mp z)
  by_cases hc0 : co (a * 8 + b) = v3
  · refine zb_t q1 hc0 ?_
    unfold wpY_raise
    refine zy_bp0 hn ha hb hab ?_
    refine br_t rfl (br_f g1 (br_t g2 ?_))
    rw [zp_cell]
    refine And.intro hv1 (zb_f q1 hst (And.intro hv1 ?_))
    exact zb_t q1 hc0 ⟨rfl, zz_in hIn⟩
  refine zb_f q1 hc0 (And.intro hv1 ?_)
  refine nm_r (zp_up q1) ?_
  refine And.intro hv1 ?_
  by_cases hf : fl (a * 8 + b) = 0
  · refine zb_t q1 hf ?_
    unfold wpY_raise
    refine zy_bp0 hn ha hb hab ?_
    refine br_t rfl (br_f g1 (br_t g2 ?_))
    rw [zp_cell]
    refine And.intro hv1 (zb_f q1 hst (And.intro hv1 ?_))
    refine zb_f q1 hc0 (And.intro hv1 ?_)
    refine nm_r (zp_up q1) ?_
    refine And.intro hv1 ?_
    refine zb_f q1 (fun z => (zp_sf2.mp z).2 hf) ?_
    exact ⟨rfl, zz_in ⟨⟨hn, hl60, hL, hs, hn2⟩, hok, hco1, hlk, hpk, hrm⟩⟩
  · refine zb_f q1 hf ?_
    refine zx_orig hn (by omega) ?_
    unfold wpY_raise
    refine zy_bp0 hn ha hb hab ?_
    refine br_t rfl (br_f g1 (br_t g2 ?_))
    rw [zp_cell]
    refine And.intro hv1 (zb_f q1 hst (And.intro hv1 ?_))
    refine zb_f q1 hc0 (And.intro hv1 ?_)
    refine nm_r (zp_up q1) ?_
    refine And.intro hv1 ?_
    refine zb_t q1 (zp_sf2.mpr ⟨hu, hf⟩) ?_
    refine zy_orig hlk.1 hn (by omega) ?_
    exact ⟨rfl, zz_in ⟨⟨hn, hl60, hL, hs, hn2⟩, zp_ok_og hok hco1 hn hl60, hco1, hlk, hpk, hrm⟩⟩
theorem i_vc_cut {k : Nat} {u : SX} {v : SY} (I : i_Rel k u v) (hk : k + 4 ≤ 2052) (v1 : Int32) (v2 : Int32) : wpX_cut (fun r u' => wpY_cut (fun r' v' => r' = r ∧ i_Rel (k + 4) u' v') v v1 v2) u v1 v2 := by
  refine zz_el (P := fun u v => wpX_cut (fun r u' => wpY_cut (fun r' v' => r' = r ∧ i_Rel (k + 4) u' v') v v1 v2) u v1 v2) ?_ I
  intro n l L s D up fl co us sd rc og ps pa pb rm ds se mk cm wk hI
  have hIn := hI
  obtain ⟨⟨hn, hl60, hL, hs, hn2⟩, hok, hco, hlk, hpk, hrm⟩ := hI
  by_cases hp : zd_pr n v1 v2
  rotate_left
  · unfold wpX_cut
    refine zx_lkn hn hp ?_
    refine br_t rfl ?_
    unfold wpY_cut
    refine zy_bp1 hn hp ?_
    exact br_f zp_10 ⟨rfl, zz_in hIn⟩
  obtain ⟨a, b, ha, hb, hab, rfl, rfl⟩ := hp
  have hv1 : vp_in (nI (a * 8 + b)) 64 := vp_in_nI (by omega) (by omega)
  have hv2 : vp_in (nI (b * 8 + a)) 64 := vp_in_nI (by omega) (by omega)
  have q1 : a * 8 + b < 2 ^ 31 := by omega
  have q2 : b * 8 + a < 2 ^ 31 := by omega
  unfold wpX_cut
  by_cases hu : up (a * 8 + b) = 0
  · refine zx_lk0 hn ha hb hab hu ?_
    refine br_t rfl ?_
    unfold wpY_cut
    refine zy_bp0 hn ha hb hab ?_
    refine br_t rfl ?_
    rw [zp_cell]
    refine And.intro hv1 ?_
    exact zb_t q1 (zp_sf0.mpr hu) ⟨rfl, zz_in hIn⟩
  refine zx_lk1 hn ha hb hab hu ?_
  refine br_f zp_10 ?_
  refine zx_cell a b ?_
  refine zx_cell b a ?_
  refine And.intro hv1 ?_
  refine nm_r (zp_rd q1) ?_
  refine And.intro hv1 ?_
  refine nm_r (zp_un q1 zp_n0) ?_
  refine And.intro hv2 ?_
  refine nm_r (zp_un q2 zp_n0) ?_
  refine zx_setFull (by omega) (by omega) zp_n0 ?_
  refine zx_rpb hs ?_
  have hlk2 := zp_lk_cut hlk (show a < 8 by omega) (show b < 8 by omega)
  have hst : ¬ zd_sf up fl (a * 8 + b) = 0 := fun z => hu (zp_sf0.mp z)
  by_cases hf : fl (a * 8 + b) = 0
  · refine br_t hf ?_
    unfold wpY_cut
    refine zy_bp0 hn ha hb hab ?_
    refine br_t rfl ?_
    rw [zp_cell]
    refine And.intro hv1 (zb_f q1 hst (And.intro hv1 ?_))
    refine zb_f q1 (fun z => (zp_sf2.mp z).2 hf) ?_
    unfold wY_cut_45
    refine zy_setLink (by omega) (by omega) ?_
    rw [zp_sf_cut]
    refine zy_rpb hs (br_t rfl ?_)
    exact ⟨rfl, zz_in ⟨⟨hn, hl60, hL, hs, hn2⟩, hok, hco, hlk2, hpk, hrm⟩⟩
  · refine br_f hf ?_
    refine zx_orig hn (by omega) ?_
    refine zx_orig hn (by omega) ?_
    unfold wpY_cut
    refine zy_bp0 hn ha hb hab ?_
    refine br_t rfl ?_
    rw [zp_cell]
    refine And.intro hv1 (zb_f q1 hst (And.intro hv1 ?_))
    refine zb_t q1 (zp_sf2.mpr ⟨hu, hf⟩) ?_
    unfold wY_cut_45
    refine zy_setLink (by omega) (by omega) ?_
    rw [zp_sf_cut]
    refine zy_rpb hs (br_f zp_10 ?_)
    refine zy_orig hlk2.1 hn (by omega) ?_
    refine zy_orig hlk2.1 hn (by omega) ?_
    exact ⟨rfl, zz_in ⟨⟨hn, hl60, hL, hs, hn2⟩, zp_ok_og (zp_ok_og hok hco hn hl60) hco hn hl60, hco, hlk2, hpk, hrm⟩⟩
theorem i_vc_restart {k : Nat} {u : SX} {v : SY} (I : i_Rel k u v) (hk : k + 4 ≤ 2052) (v1 : Int32) : wpX_restart (fun r u' => wpY_restart (fun r' v' => r' = r ∧ i_Rel (k + 4) u' v') v v1) u v1 := by
  refine zz_el (P := fun u v => wpX_restart (fun r u' => wpY_restart (fun r' v' => r' = r ∧ i_Rel (k + 4) u' v') v v1) u v1) ?_ I
  intro n l L s D up fl co us sd rc og ps pa pb rm ds se mk cm wk hI
  have hIn := hI
  obtain ⟨⟨hn, hl60, hL, hs, hn2⟩, hok, hco, hlk, hpk, hrm⟩ := hI
  rcases zp_ix n (by omega) v1 with h1 | ⟨r, hr, rfl⟩
  · unfold wpX_restart
    refine zx_valid0 h1 ?_
    refine br_t rfl ?_
    unfold wpY_restart
    refine zy_bad1 h1 ?_
    exact br_f zp_10 ⟨rfl, zz_in hIn⟩
  refine zx_restart (c := fun j => decide (¬ (zd_ro fl r j).1 (r * 8 + j) = 0)) hn hs hr (fun i hi => ?_) ?_
  · rw [zp_ro_bit n hn i (by omega), decide_eq_true hi, Bool.true_and]
  refine zy_restart hlk hn hs hr ?_
  exact ⟨rfl, zz_in ⟨⟨hn, hl60, hL, hs, hn2⟩, zp_ok_oa (zp_ok_og (zp_ok_cr hok n) hco hn hl60) hco hn hl60 n, hco, zp_ro_lk hlk (by omega) n hn, hpk, hrm⟩⟩
theorem i_vc_exchange {k : Nat} {u : SX} {v : SY} (I : i_Rel k u v) (hk : k + 4 ≤ 2052) (v1 : Int32) (v2 : Int32) : wpX_exchange (fun r u' => wpY_exchange (fun r' v' => r' = r ∧ i_Rel (k + 4) u' v') v v1 v2) u v1 v2 := by
  refine zz_el (P := fun u v => wpX_exchange (fun r u' => wpY_exchange (fun r' v' => r' = r ∧ i_Rel (k + 4) u' v') v v1 v2) u v1 v2) ?_ I
  intro n l L s D up fl co us sd rc og ps pa pb rm ds se mk cm wk hI
  have hIn := hI
  obtain ⟨⟨hn, hl60, hL, hs, hn2⟩, hok, hco, hlk, hpk, hrm⟩ := hI
  by_cases hp : zd_pr n v1 v2
  rotate_left
  · unfold wpX_exchange
    refine zx_lkn hn hp ?_
    refine br_t rfl ?_
    unfold wpY_exchange
    refine zy_bp1 hn hp ?_
    exact br_f zp_10 ⟨rfl, zz_in hIn⟩
  obtain ⟨a, b, ha, hb, hab, rfl, rfl⟩ := hp
  have hv1 : vp_in (nI (a * 8 + b)) 64 := vp_in_nI (by omega) (by omega)
  have q1 : a * 8 + b < 2 ^ 31 := by omega
  unfold wpX_exchange
  by_cases hu : up (a * 8 + b) = 0
  · refine zx_lk0 hn ha hb hab hu ?_
    refine br_t rfl ?_
    unfold wpY_exchange
    refine zy_bp0 hn ha hb hab ?_
    refine br_t rfl ?_
    rw [zp_cell]
    refine And.intro hv1 ?_
    exact zb_t q1 (zp_sf0.mpr hu) ⟨rfl, zz_in hIn⟩
  have hu2 : ¬ up (b * 8 + a) = 0 := by rw [← hlk.2.1 a b (by omega) (by omega)]; exact hu
  have hst : ¬ zd_sf up fl (a * 8 + b) = 0 := fun z => hu (zp_sf0.mp z)
  refine zx_lk1 hn ha hb hab hu ?_
  refine br_f zp_10 ?_
  refine zx_cell a b ?_
  refine And.intro hv1 ?_
  by_cases hf : fl (a * 8 + b) = 0
  rotate_left
  · refine zb_f q1 hf ?_
    unfold wpY_exchange
    refine zy_bp0 hn ha hb hab ?_
    refine br_t rfl ?_
    rw [zp_cell]
    refine And.intro hv1 (zb_f q1 hst (And.intro hv1 ?_))
    exact zb_t q1 (zp_sf2.mpr ⟨hu, hf⟩) ⟨rfl, zz_in hIn⟩
  have hs2 : ¬ zd_sf up fl (a * 8 + b) = 2 := fun z => (zp_sf2.mp z).2 hf
  refine zb_t q1 hf ?_
  refine zx_owed hn ha hb hab hu ?_
  by_cases w1 : zd_ow (fun o => zd_nw (nI L) (D.1 (a * 8 + o)) (D.2.1 (a * 8 + o)) (D.2.2 (a * 8 + o)) (D.1 (b * 8 + o)) (D.2.1 (b * 8 + o)) (D.2.2 (b * 8 + o))) n = 0
  rotate_left
  · refine br_f w1 ?_
    unfold wpY_exchange
    refine zy_bp0 hn ha hb hab ?_
    refine br_t rfl ?_
    rw [zp_cell]
    refine And.intro hv1 (zb_f q1 hst (And.intro hv1 (zb_f q1 hs2 ?_)))
    refine zy_owed hn ha hb hab hu ?_
    exact br_f w1 ⟨rfl, zz_in hIn⟩
  refine br_t w1 ?_
  refine zx_owed hn hb ha (Ne.symm hab) hu2 ?_
  by_cases w2 : zd_ow (fun o => zd_nw (nI L) (D.1 (b * 8 + o)) (D.2.1 (b * 8 + o)) (D.2.2 (b * 8 + o)) (D.1 (a * 8 + o)) (D.2.1 (a * 8 + o)) (D.2.2 (a * 8 + o))) n = 0
  rotate_left
  · refine br_f w2 ?_
    unfold wpY_exchange
    refine zy_bp0 hn ha hb hab ?_
    refine br_t rfl ?_
    rw [zp_cell]
    refine And.intro hv1 (zb_f q1 hst (And.intro hv1 (zb_f q1 hs2 ?_)))
    refine zy_owed hn ha hb hab hu ?_
    refine br_t w1 ?_
    refine zy_owed hn hb ha (Ne.symm hab) hu2 ?_
    exact br_f w2 ⟨rfl, zz_in hIn⟩
  refine br_t w2 ?_
  refine zx_setFull (by omega) (by omega) zp_n1 ?_
  refine zx_orig hn (by omega) ?_
  refine zx_orig hn (by omega) ?_
  have hlk2 := zp_lk_fu hlk (show a < 8 by omega) (show b < 8 by omega) hu
  unfold wpY_exchange
  refine zy_bp0 hn ha hb hab ?_
  refine br_t rfl ?_
  rw [zp_cell]
  refine And.intro hv1 (zb_f q1 hst (And.intro hv1 (zb_f q1 hs2 ?_)))
  refine zy_owed hn ha hb hab hu ?_
  refine br_t w1 ?_
  refine zy_owed hn hb ha (Ne.symm hab) hu2 ?_
  refine br_t w2 ?_
  refine zy_setLink (by omega) (by omega) ?_
  rw [zp_sf_fu hu hu2]
  refine zy_orig hlk2.1 hn (by omega) ?_
  refine zy_orig hlk2.1 hn (by omega) ?_
  exact ⟨rfl, zz_in ⟨⟨hn, hl60, hL, hs, hn2⟩, zp_ok_og (zp_ok_og hok hco hn hl60) hco hn hl60, hco, hlk2, hpk, hrm⟩⟩
theorem i_vc_lose {k : Nat} {u : SX} {v : SY} (I : i_Rel k u v) (hk : k + 4 ≤ 2052) (v1 : Int32) : wpX_lose (fun r u' => wpY_lose (fun r' v' => r' = r ∧ i_Rel (k + 4) u' v') v v1) u v1 := by
  refine zz_el (P := fun u v => wpX_lose (fun r u' => wpY_lose (fun r' v' => r' = r ∧ i_Rel (k + 4) u' v') v v1) u v1) ?_ I
  intro n l L s D up fl co us sd rc og ps pa pb rm ds se mk cm wk hI
  have hIn := hI
  obtain ⟨⟨hn, hl60, hL, hs, hn2⟩, hok, hco, hlk, hpk, hrm⟩ := hI
  rcases zp_ix s (by omega) v1 with h1 | ⟨i, hi, rfl⟩
  · unfold wpX_lose
    refine zx_inFlightn h1 ?_
    refine br_t rfl ?_
    unfold wpY_lose
    refine zy_npn h1 ?_
    exact br_f zp_10 ⟨rfl, zz_in hIn⟩
  unfold wpX_lose
  have hv : vp_in (nI i) 16 := vp_in_nI (by omega) (by omega)
  by_cases hu : us i = 0
  · refine zx_inFlight0 hs hi hu ?_
    refine br_t rfl ?_
    unfold wpY_lose
    refine zy_np1 hs hi hu ?_
    exact br_f zp_10 ⟨rfl, zz_in hIn⟩
  refine zx_inFlight1 hs hi hu ?_
  refine br_f zp_10 (And.intro hv ?_)
  refine nm_r (zp_un (by omega) zp_n0) ?_
  unfold wpY_lose
  refine zy_np0 hs hi hu ?_
  refine br_t rfl (And.intro hv ?_)
  refine nm_r (zp_un (by omega) zp_n0) ?_
  exact ⟨rfl, zz_in hIn⟩
end
section
/- deliver, each side -/
section
variable {n l L s : Nat} {D : zd_DB} {up fl co us sd rc og ps pa pb rm ds se : Nat → Int32}
theorem zx_deliver {post : Int32 → SX → Prop} {i r o : Nat} (hn : n ≤ 8) (hs : s ≤ 16) (hi : i < s) (hu : ¬ us i = 0) (hr : r < n) (ho : o < n) (er : rc i = nI r) (eo : og i = nI o)
    (h0 : zd_nw (nI L) (ps i) (pa i) (pb i) (D.1 (r * 8 + o)) (D.2.1 (r * 8 + o)) (D.2.2 (r * 8 + o)) = false → post 0 (nI n, nI l, nI L, nI s, D.1, D.2.1, D.2.2, up, fl, co, upd us i 0, sd, rc, og, ps, pa, pb, rm, ds, se))
    (h1 : zd_nw (nI L) (ps i) (pa i) (pb i) (D.1 (r * 8 + o)) (D.2.1 (r * 8 + o)) (D.2.2 (r * 8 + o)) = true → ¬ r = o → post 1 (nI n, nI l, nI L, nI s, (zd_st D (r * 8 + o) (ps i) (pa i) (pb i)).1, (zd_st D (r * 8 + o) (ps i) (pa i) (pb i)).2.1, (zd_st D (r * 8 + o) (ps i) (pa i) (pb i)).2.2, up, fl, co, upd us i 0, sd, rc, og, ps, pa, pb, rm, ds, se))
    (h2 : zd_nw (nI L) (ps i) (pa i) (pb i) (D.1 (r * 8 + o)) (D.2.1 (r * 8 + o)) (D.2.2 (r * 8 + o)) = true → r = o → post 2 (nI n, nI l, nI L, nI s, (zd_og n l L fl co (zd_st D (r * 8 + o) (ps i) (pa i) (pb i)) r).1, (zd_og n l L fl co (zd_st D (r * 8 + o) (ps i) (pa i) (pb i)) r).2.1, (zd_og n l L fl co (zd_st D (r * 8 + o) (ps i) (pa i) (pb i)) r).2.2, up, fl, co, upd us i 0, sd, rc, og, ps, pa, pb, rm, ds, se)) : wpX_deliver post (nI n, nI l, nI L, nI s, D.1, D.2.1, D.2.2, up, fl, co, us, sd, rc, og, ps, pa, pb, rm, ds, se) (nI i) := by
  unfold wpX_deliver
  have hv : vp_in (nI i) 16 := vp_in_nI (by omega) (by omega)
  have qi : i < 2 ^ 31 := by omega
  refine zx_inFlight1 hs hi hu ?_
  refine br_f zp_10 (And.intro hv ?_)
  refine nm_r (zp_un qi zp_n0) ?_
  refine And.intro hv ?_
  refine nm_r ((zp_rd qi).trans er) ?_
  refine And.intro hv ?_
  refine nm_r ((zp_rd qi).trans eo) ?_
  refine zx_cell r o ?_
  refine And.intro hv (And.intro hv (And.intro hv ?_))
  rw [nI_clamp (n := i) qi]
  refine zx_newer (by omega) ?_
  refine zb_b (fun e => h0 e) (fun e => ?_)
  refine And.intro hv (And.intro hv (And.intro hv ?_))
  refine zx_store (by omega) ?_
  by_cases hro : r = o
  · refine br_t (congrArg nI hro) ?_
    refine zx_orig hn (by omega) ?_
    exact h2 e hro
  · exact br_f (zp_ne (by omega) (by omega) hro) (h1 e hro)
end
section
variable {n l L s : Nat} {D : zd_DB} {up fl co us sd rc og ps pa pb mk cm wk : Nat → Int32}
theorem zy_deliver {post : Int32 → SY → Prop} {i r o : Nat} (hl : zd_lk up fl) (hn : n ≤ 8) (hs : s ≤ 16) (hi : i < s) (hu : ¬ us i = 0) (hr : r < n) (ho : o < n) (er : rc i = nI r) (eo : og i = nI o)
    (h0 : zd_nw (nI L) (ps i) (pa i) (pb i) (D.1 (r * 8 + o)) (D.2.1 (r * 8 + o)) (D.2.2 (r * 8 + o)) = false → post 0 (nI n, nI l, nI L, nI s, zd_sf up fl, co, D.1, D.2.1, D.2.2, upd us i 0, zd_pk sd rc og ps pa pb, mk, cm, wk))
    (h1 : zd_nw (nI L) (ps i) (pa i) (pb i) (D.1 (r * 8 + o)) (D.2.1 (r * 8 + o)) (D.2.2 (r * 8 + o)) = true → ¬ r = o → post 1 (nI n, nI l, nI L, nI s, zd_sf up fl, co, (zd_st D (r * 8 + o) (ps i) (pa i) (pb i)).1, (zd_st D (r * 8 + o) (ps i) (pa i) (pb i)).2.1, (zd_st D (r * 8 + o) (ps i) (pa i) (pb i)).2.2, upd us i 0, zd_pk sd rc og ps pa pb, mk, cm, wk))
    (h2 : zd_nw (nI L) (ps i) (pa i) (pb i) (D.1 (r * 8 + o)) (D.2.1 (r * 8 + o)) (D.2.2 (r * 8 + o)) = true → r = o → post 2 (nI n, nI l, nI L, nI s, zd_sf up fl, co, (zd_og n l L fl co (zd_st D (r * 8 + o) (ps i) (pa i) (pb i)) r).1, (zd_og n l L fl co (zd_st D (r * 8 + o) (ps i) (pa i) (pb i)) r).2.1, (zd_og n l L fl co (zd_st D (r * 8 + o) (ps i) (pa i) (pb i)) r).2.2, upd us i 0, zd_pk sd rc og ps pa pb, mk, cm, wk)) : wpY_deliver post (nI n, nI l, nI L, nI s, zd_sf up fl, co, D.1, D.2.1, D.2.2, us, zd_pk sd rc og ps pa pb, mk, cm, wk) (nI i) := by
  unfold wpY_deliver
  have hv : vp_in (nI i) 16 := vp_in_nI (by omega) (by omega)
  have qi : i < 2 ^ 31 := by omega
  have hvc : vp_in (nI (r * 8 + o)) 64 := vp_in_nI (by omega) (by omega)
  refine zy_np0 hs hi hu ?_
  refine br_t rfl (And.intro hv ?_)
  refine nm_r (zp_un qi zp_n0) ?_
  refine nm_e ?_
  rw [zp_65, zp_63, zp_60, zp_61, zp_62]
  refine And.intro (vp_in_nI (by omega) (by omega)) ?_
  refine nm_r ((zp_rd (by omega)).trans ((zp_pk5 i).trans er)) ?_
  refine And.intro (vp_in_nI (by omega) (by omega)) ?_
  refine nm_r ((zp_rd (by omega)).trans ((zp_pk3 i).trans eo)) ?_
  refine nm_r (zp_cell r o) ?_
  have p0 : vp_in (nI (i * 6 + 0)) 96 := vp_in_nI (by omega) (by omega)
  have p1 : vp_in (nI (i * 6 + 1)) 96 := vp_in_nI (by omega) (by omega)
  have p2 : vp_in (nI (i * 6 + 2)) 96 := vp_in_nI (by omega) (by omega)
  refine And.intro p0 (And.intro p1 (And.intro p2 (And.intro hvc (And.intro hvc (And.intro hvc ?_)))))
  rw [nI_clamp (n := r * 8 + o) (by omega), nI_clamp (n := i * 6 + 0) (by omega), nI_clamp (n := i * 6 + 1) (by omega), nI_clamp (n := i * 6 + 2) (by omega), zp_pk0, zp_pk1, zp_pk2]
  refine zy_newer ?_
  refine zb_b (fun e => h0 e) (fun e => ?_)
  refine And.intro p0 (And.intro p1 (And.intro p2 ?_))
  refine zy_receive hl.1 hn (by omega) (by omega) ?_
  by_cases hro : r = o
  · rw [if_pos hro]
    exact br_t (congrArg nI hro) (h2 e hro)
  · rw [if_neg hro]
    exact br_f (zp_ne (by omega) (by omega) hro) (h1 e hro)
end
end
section
/- owed, second half -/
theorem i_vc_send {k : Nat} {u : SX} {v : SY} (I : i_Rel k u v) (hk : k + 4 ≤ 2052) (v1 : Int32) (v2 : Int32) (v3 : Int32) : wpX_send (fun r u' => wpY_send (fun r' v' => r' = r ∧ i_Rel (k + 4) u' v') v v1 v2 v3) u v1 v2 v3 := by
  refine zz_el (P := fun u v => wpX_send (fun r u' => wpY_send (fun r' v' => r' = r ∧ i_Rel (k + 4) u' v') v v1 v2 v3) u v1 v2 v3) ?_ I
  intro n l L s D up fl co us sd rc og ps pa pb rm ds se mk cm wk hI
  have hIn := hI
  obtain ⟨⟨hn, hl60, hL, hs, hn2⟩, hok, hco, hlk, hpk, hrm⟩ := hI
  unfold wpX_send
  rcases zp_ix n (by omega) v3 with h3 | ⟨o, ho, rfl⟩
  · refine zx_valid0 h3 ?_
    refine br_t rfl ?_
    unfold wpY_send
    by_cases hp : zd_pr n v1 v2
    · obtain ⟨a, b, ha, hb, hab, rfl, rfl⟩ := hp
      refine zy_bp0 hn ha hb hab ?_
      refine br_t rfl ?_
      refine zy_bad1 h3 ?_
      exact br_f zp_10 ⟨rfl, zz_in hIn⟩
    · refine zy_bp1 hn hp ?_
      exact br_f zp_10 ⟨rfl, zz_in hIn⟩
  refine zx_valid1 hn ho ?_
  refine br_f zp_10 ?_
  by_cases hp : zd_pr n v1 v2
  rotate_left
  · refine zx_lkn hn hp ?_
    refine br_t rfl ?_
    unfold wpY_send
    refine zy_bp1 hn hp ?_
    exact br_f zp_10 ⟨rfl, zz_in hIn⟩
  obtain ⟨a, b, ha, hb, hab, rfl, rfl⟩ := hp
  have hv1 : vp_in (nI (a * 8 + b)) 64 := vp_in_nI (by omega) (by omega)
  have q1 : a * 8 + b < 2 ^ 31 := by omega
  by_cases hu : up (a * 8 + b) = 0
  · refine zx_lk0 hn ha hb hab hu ?_
    refine br_t rfl ?_
    unfold wpY_send
    refine zy_bp0 hn ha hb hab ?_
    refine br_t rfl ?_
    refine zy_bad0 hn ho ?_
    refine br_t rfl ?_
    rw [zp_cell]
    refine And.intro hv1 ?_
    exact zb_t q1 (zp_sf0.mpr hu) ⟨rfl, zz_in hIn⟩
  have hst : ¬ zd_sf up fl (a * 8 + b) = 0 := fun z => hu (zp_sf0.mp z)
  refine zx_lk1 hn ha hb hab hu ?_
  refine br_f zp_10 ?_
  refine zx_isOwed (by omega) (by omega) (by omega) ?_
  rw [decide_eq_true hu, Bool.true_and]
  by_cases hw : zd_nw (nI L) (D.1 (a * 8 + o)) (D.2.1 (a * 8 + o)) (D.2.2 (a * 8 + o)) (D.1 (b * 8 + o)) (D.2.1 (b * 8 + o)) (D.2.2 (b * 8 + o)) = true
  rotate_left
  · refine zb_b0 (zp_nf hw) ?_
    unfold wpY_send
    refine zy_bp0 hn ha hb hab ?_
    refine br_t rfl ?_
    refine zy_bad0 hn ho ?_
    refine br_t rfl ?_
    rw [zp_cell]
    refine And.intro hv1 (zb_f q1 hst ?_)
    refine zy_beats (by omega) (by omega) (by omega) ?_
    exact zb_b0 (zp_nf hw) ⟨rfl, zz_in hIn⟩
  refine zb_b1 hw ?_
  by_cases hq : zd_sr (fun i => decide (us i = 0)) 0 s < s
  rotate_left
  · refine zx_freeSlot0 hs hq ?_
    refine br_f zp_m1' ?_
    unfold wpY_send
    refine zy_bp0 hn ha hb hab ?_
    refine br_t rfl ?_
    refine zy_bad0 hn ho ?_
    refine br_t rfl ?_
    rw [zp_cell]
    refine And.intro hv1 (zb_f q1 hst ?_)
    refine zy_beats (by omega) (by omega) (by omega) ?_
    refine zb_b1 hw ?_
    exact zy_send0 hs hq ⟨rfl, zz_in hIn⟩
  refine zx_freeSlot1 hs hq ?_
  refine br_t (nI_pos' (by omega)) ?_
  refine zx_cell a o ?_
  have hvi : vp_in (nI (zd_sr (fun i => decide (us i = 0)) 0 s)) 16 := vp_in_nI (by omega) (by omega)
  have hvc : vp_in (nI (a * 8 + o)) 64 := vp_in_nI (by omega) (by omega)
  have qi : zd_sr (fun i => decide (us i = 0)) 0 s < 2 ^ 31 := by omega
  rw [nI_clamp (n := a * 8 + o) (by omega)]
  refine And.intro hvi ?_
  refine nm_r (zp_un qi zp_n1) ?_
  refine And.intro hvi ?_
  refine nm_r (zp_up qi) ?_
  refine And.intro hvi ?_
  refine nm_r (zp_up qi) ?_
  refine And.intro hvi ?_
  refine nm_r (zp_up qi) ?_
  refine And.intro hvc (And.intro hvi ?_)
  refine nm_r (zp_up qi) ?_
  refine And.intro hvc (And.intro hvi ?_)
  refine nm_r (zp_up qi) ?_
  refine And.intro hvc (And.intro hvi ?_)
  refine nm_r (zp_up qi) ?_
  unfold wpY_send
  refine zy_bp0 hn ha hb hab ?_
  refine br_t rfl ?_
  refine zy_bad0 hn ho ?_
  refine br_t rfl ?_
  rw [zp_cell]
  refine And.intro hv1 (zb_f q1 hst ?_)
  refine zy_beats (by omega) (by omega) (by omega) ?_
  refine zb_b1 hw ?_
  refine zy_send1 hs (by omega) (by omega) hq ?_
  refine ⟨rfl, zz_in ⟨⟨hn, hl60, hL, hs, hn2⟩, hok, hco, hlk, fun i => ?_, hrm⟩⟩
  generalize zd_sr (fun i => decide (us i = 0)) 0 s = j
  by_cases e : i = j
  · rw [e, pk_us, pk_us, pk_us, pk_us]
    exact ⟨⟨b, hb, rfl⟩, ⟨o, ho, rfl⟩, (hok _).1, (hok _).2⟩
  · rw [pk_un e, pk_un e, pk_un e, pk_un e]
    exact hpk i
theorem i_vc_deliver {k : Nat} {u : SX} {v : SY} (I : i_Rel k u v) (hk : k + 4 ≤ 2052) (v1 : Int32) : wpX_deliver (fun r u' => wpY_deliver (fun r' v' => r' = r ∧ i_Rel (k + 4) u' v') v v1) u v1 := by
  refine zz_el (P := fun u v => wpX_deliver (fun r u' => wpY_deliver (fun r' v' => r' = r ∧ i_Rel (k + 4) u' v') v v1) u v1) ?_ I
  intro n l L s D up fl co us sd rc og ps pa pb rm ds se mk cm wk hI
  have hIn := hI
  obtain ⟨⟨hn, hl60, hL, hs, hn2⟩, hok, hco, hlk, hpk, hrm⟩ := hI
  rcases zp_ix s (by omega) v1 with h1 | ⟨i, hi, rfl⟩
  · unfold wpX_deliver
    refine zx_inFlightn h1 ?_
    refine br_t rfl ?_
    unfold wpY_deliver
    refine zy_npn h1 ?_
    exact br_f zp_10 ⟨rfl, zz_in hIn⟩
  by_cases hu : us i = 0
  · unfold wpX_deliver
    refine zx_inFlight0 hs hi hu ?_
    refine br_t rfl ?_
    unfold wpY_deliver
    refine zy_np1 hs hi hu ?_
    exact br_f zp_10 ⟨rfl, zz_in hIn⟩
  obtain ⟨⟨r, hr, er⟩, ⟨o, ho, eo⟩, hps, hpb⟩ := hpk i
  have hok2 : zd_ok (zd_st D (r * 8 + o) (ps i) (pa i) (pb i)) := zp_ok_st hok hps hpb
  refine zx_deliver hn hs hi hu hr ho er eo (fun e => ?_) (fun e g => ?_) (fun e g => ?_)
  · refine zy_deliver hlk hn hs hi hu hr ho er eo (fun _ => ?_) (fun z => absurd (e.symm.trans z) (by decide)) (fun z => absurd (e.symm.trans z) (by decide))
    exact ⟨rfl, zz_in hIn⟩
  · refine zy_deliver hlk hn hs hi hu hr ho er eo (fun z => absurd (z.symm.trans e) (by decide)) (fun _ _ => ?_) (fun _ z => absurd z g)
    exact ⟨rfl, zz_in ⟨⟨hn, hl60, hL, hs, hn2⟩, hok2, hco, hlk, hpk, hrm⟩⟩
  · refine zy_deliver hlk hn hs hi hu hr ho er eo (fun z => absurd (z.symm.trans e) (by decide)) (fun _ z => absurd g z) (fun _ _ => ?_)
    exact ⟨rfl, zz_in ⟨⟨hn, hl60, hL, hs, hn2⟩, zp_ok_og hok2 hco hn hl60, hco, hlk, hpk, hrm⟩⟩
theorem i_vc_tick {k : Nat} {u : SX} {v : SY} (I : i_Rel k u v) (hk : k + 4 ≤ 2052) : wpX_tick (fun r u' => wpY_tick (fun r' v' => r' = r ∧ i_Rel (k + 4) u' v') v) u := by
  refine zz_el (P := fun u v => wpX_tick (fun r u' => wpY_tick (fun r' v' => r' = r ∧ i_Rel (k + 4) u' v') v) u) ?_ I
  intro n l L s D up fl co us sd rc og ps pa pb rm ds se mk cm wk hI
  have hIn := hI
  obtain ⟨⟨hn, hl60, hL, hs, hn2⟩, hok, hco, hlk, hpk, hrm⟩ := hI
  have hin : ∀ h, (h < n * 8 ∧ h % 8 < n) ↔ ¬ (n ≤ h / 8 ∨ n ≤ h % 8) := fun h => by omega
  refine zx_tick (c := fun h => decide (h < n * 8 ∧ h % 8 < n) && zd_rc n L up fl D h) hn hs (fun h hh => ?_) ?_
  · show (if h < n * 8 ∧ h % 8 < n then zd_b (zd_rc n L up fl D h) else rm h) = 0 ↔ (decide (h < n * 8 ∧ h % 8 < n) && zd_rc n L up fl D h) = false
    by_cases e : h < n * 8 ∧ h % 8 < n
    · rw [if_pos e, decide_eq_true e, Bool.true_and]; exact zp_b0
    · rw [if_neg e, decide_eq_false e, Bool.false_and]
      exact ⟨fun _ => rfl, fun _ => hrm h (by omega)⟩
  refine zy_tick (c := fun h => decide (h < n * 8 ∧ h % 8 < n) && zd_rc n L up fl D h) hlk (fun i => (zp_ok_rv hok 64 i).1) hn hs (fun a o ha ho => ?_) (fun h hh => ?_) ?_
  · show (if a * 8 + o < n * 8 ∧ (a * 8 + o) % 8 < n then zd_b (zd_rc n L up fl D (a * 8 + o)) else mk (a * 8 + o)) = 0 ↔ (decide (a * 8 + o < n * 8 ∧ (a * 8 + o) % 8 < n) && zd_rc n L up fl D (a * 8 + o)) = false
    have e : a * 8 + o < n * 8 ∧ (a * 8 + o) % 8 < n := by omega
    rw [if_pos e, decide_eq_true e, Bool.true_and]; exact zp_b0
  · show (decide (h < n * 8 ∧ h % 8 < n) && zd_rc n L up fl D h) = false
    rw [decide_eq_false (by omega), Bool.false_and]
  refine ⟨rfl, zz_in ⟨⟨hn, hl60, hL, hs, hn2⟩, zp_ok_rf (zp_ok_ac (zp_ok_rv hok 64) 64) hco hn hl60 n, hco, hlk, fun i => ⟨(hpk i).1, (hpk i).2.1, (hpk i).2.2.1, zp_ap (fun j => (hpk j).2.2.2) s i⟩, fun h hh => ?_⟩⟩
  show (if h < n * 8 ∧ h % 8 < n then zd_b (zd_rc n L up fl D h) else rm h) = 0
  rw [if_neg (by omega)]
  exact hrm h hh
theorem i_vc_settle {k : Nat} {u : SX} {v : SY} (I : i_Rel k u v) (hk : k + 4 ≤ 2052) : wpX_settle (fun r u' => wpY_settle (fun r' v' => r' = r ∧ i_Rel (k + 4) u' v') v) u := by
  refine zz_el (P := fun u v => wpX_settle (fun r u' => wpY_settle (fun r' v' => r' = r ∧ i_Rel (k + 4) u' v') v) u) ?_ I
  intro n l L s D up fl co us sd rc og ps pa pb rm ds se mk cm wk hI
  have hIn := hI
  obtain ⟨⟨hn, hl60, hL, hs, hn2⟩, hok, hco, hlk, hpk, hrm⟩ := hI
  refine zx_settle (mk := zd_m0 mk n) hn hs ?_
  refine zy_settle hlk hok hco hn hs hl60 (fun cm' mk' => ?_)
  have hF : zd_Fk n up (fl, 0, 0, zd_m0 mk n) := ⟨hlk, fun j hj => by show zd_m0 mk n j = zd_b (bt 0 j); rw [b_0, zp_m0 n j hj]; rfl⟩
  have hF2 := zp_Fk2 hn hF n (Nat.le_refl n)
  exact ⟨rfl, zz_in ⟨⟨hn, hl60, hL, hs, hn2⟩, zp_ok_fd (zp_ok_oa (zp_ok_fd hok hco hn hl60 n) hco hn hl60 n) hco hn hl60 n, hco, hF2.1, hpk, hrm⟩⟩
theorem i_vc_copy {k : Nat} {u : SX} {v : SY} (I : i_Rel k u v) (hk : k + 4 ≤ 2052) (v1 : Int32) (v2 : Int32) (v3 : Int32) : wpX_copy (fun r => wpY_copy (fun r' => r' = r ∧ i_Rel (k + 4) u v) v v1 v2 v3) u v1 v2 v3 := by
  refine zz_el (P := fun u v => wpX_copy (fun r => wpY_copy (fun r' => r' = r ∧ i_Rel (k + 4) u v) v v1 v2 v3) u v1 v2 v3) ?_ I
  intro n l L s D up fl co us sd rc og ps pa pb rm ds se mk cm wk hI
  have hIn := hI
  obtain ⟨⟨hn, hl60, hL, hs, hn2⟩, hok, hco, hlk, hpk, hrm⟩ := hI
  unfold wpX_copy
  rcases zp_ix n (by omega) v1 with h1 | ⟨a, ha, rfl⟩
  · refine zx_valid0 h1 ?_
    refine br_t rfl ?_
    unfold wpY_copy
    refine zy_bad1 h1 ?_
    exact br_f zp_10 ⟨rfl, zz_in hIn⟩
  refine zx_valid1 hn ha ?_
  refine br_f zp_10 ?_
  rcases zp_ix n (by omega) v2 with h2 | ⟨o, ho, rfl⟩
  · refine zx_valid0 h2 ?_
    refine br_t rfl ?_
    unfold wpY_copy
    refine zy_bad0 hn ha ?_
    refine br_t rfl ?_
    refine zy_bad1 h2 ?_
    exact br_f zp_10 ⟨rfl, zz_in hIn⟩
  refine zx_valid1 hn ho ?_
  refine br_f zp_10 ?_
  refine zx_cell a o ?_
  have hv : vp_in (nI (a * 8 + o)) 64 := vp_in_nI (by omega) (by omega)
  by_cases g1 : v3 < 0
  · refine br_t g1 ?_
    unfold wpY_copy
    refine zy_bad0 hn ha ?_
    refine br_t rfl ?_
    refine zy_bad0 hn ho ?_
    exact br_t rfl (br_t g1 ⟨rfl, zz_in hIn⟩)
  refine br_f g1 ?_
  by_cases g2 : v3 ≤ 2
  rotate_left
  · refine br_t (Int32.not_le.mp g2) ?_
    unfold wpY_copy
    refine zy_bad0 hn ha ?_
    refine br_t rfl ?_
    refine zy_bad0 hn ho ?_
    exact br_t rfl (br_f g1 (br_f g2 ⟨rfl, zz_in hIn⟩))
  refine br_f (Int32.not_lt.mpr g2) ?_
  by_cases g3 : v3 = 0
  · refine br_t g3 (And.intro hv ?_)
    unfold wpY_copy
    refine zy_bad0 hn ha ?_
    refine br_t rfl ?_
    refine zy_bad0 hn ho ?_
    rw [zp_cell]
    exact br_t rfl (br_f g1 (br_t g2 (br_t g3 (And.intro hv ⟨rfl, zz_in hIn⟩))))
  refine br_f g3 ?_
  by_cases g4 : v3 = 1
  · refine br_t g4 (And.intro hv ?_)
    unfold wpY_copy
    refine zy_bad0 hn ha ?_
    refine br_t rfl ?_
    refine zy_bad0 hn ho ?_
    rw [zp_cell]
    exact br_t rfl (br_f g1 (br_t g2 (br_f g3 (br_t g4 (And.intro hv ⟨rfl, zz_in hIn⟩)))))
  refine br_f g4 ?_
  refine br_c (fun g5 => And.intro hv ?_) (fun _ => True.intro)
  unfold wpY_copy
  refine zy_bad0 hn ha ?_
  refine br_t rfl ?_
  refine zy_bad0 hn ho ?_
  rw [zp_cell]
  exact br_t rfl (br_f g1 (br_t g2 (br_f g3 (br_f g4 (And.intro hv ⟨rfl, zz_in hIn⟩)))))
theorem i_vc_packet {k : Nat} {u : SX} {v : SY} (I : i_Rel k u v) (hk : k + 4 ≤ 2052) (v1 : Int32) (v2 : Int32) : wpX_packet (fun r => wpY_packet (fun r' => r' = r ∧ i_Rel (k + 4) u v) v v1 v2) u v1 v2 := by
  refine zz_el (P := fun u v => wpX_packet (fun r => wpY_packet (fun r' => r' = r ∧ i_Rel (k + 4) u v) v v1 v2) u v1 v2) ?_ I
  intro n l L s D up fl co us sd rc og ps pa pb rm ds se mk cm wk hI
  have hIn := hI
  obtain ⟨⟨hn, hl60, hL, hs, hn2⟩, hok, hco, hlk, hpk, hrm⟩ := hI
  rcases zp_ix s (by omega) v1 with h1 | ⟨i, hi, rfl⟩
  · unfold wpX_packet
    refine zx_inFlightn h1 ?_
    refine br_t rfl ?_
    unfold wpY_packet
    refine zy_npn h1 ?_
    exact br_f zp_10 ⟨rfl, zz_in hIn⟩
  unfold wpX_packet
  have hv : vp_in (nI i) 16 := vp_in_nI (by omega) (by omega)
  by_cases hu : us i = 0
  · refine zx_inFlight0 hs hi hu ?_
    refine br_t rfl ?_
    unfold wpY_packet
    refine zy_np1 hs hi hu ?_
    exact br_f zp_10 ⟨rfl, zz_in hIn⟩
  refine zx_inFlight1 hs hi hu ?_
  refine br_f zp_10 ?_
  by_cases g1 : v2 < 0
  · refine br_t g1 ?_
    unfold wpY_packet
    refine zy_np0 hs hi hu ?_
    exact br_t rfl (br_t g1 ⟨rfl, zz_in hIn⟩)
  refine br_f g1 ?_
  by_cases g2 : v2 ≤ 5
  rotate_left
  · refine br_t (Int32.not_le.mp g2) ?_
    unfold wpY_packet
    refine zy_np0 hs hi hu ?_
    exact br_t rfl (br_f g1 (br_f g2 ⟨rfl, zz_in hIn⟩))
  refine br_f (Int32.not_lt.mpr g2) ?_
  by_cases g3 : v2 = 0
  · subst g3
    refine br_t rfl (And.intro hv ?_)
    unfold wpY_packet
    refine zy_np0 hs hi hu ?_
    refine br_t rfl (br_f (by decide) (br_t (by decide) ?_))
    rw [zp_60]
    refine And.intro (vp_in_nI (by omega) (by omega)) ?_
    rw [nI_clamp (n := i) (by omega), nI_clamp (n := i * 6 + 0) (by omega), zp_pk0]
    exact ⟨rfl, zz_in hIn⟩
  refine br_f g3 ?_
  by_cases g4 : v2 = 1
  · subst g4
    refine br_t rfl (And.intro hv ?_)
    unfold wpY_packet
    refine zy_np0 hs hi hu ?_
    refine br_t rfl (br_f (by decide) (br_t (by decide) ?_))
    rw [zp_61]
    refine And.intro (vp_in_nI (by omega) (by omega)) ?_
    rw [nI_clamp (n := i) (by omega), nI_clamp (n := i * 6 + 1) (by omega), zp_pk1]
    exact ⟨rfl, zz_in hIn⟩
  refine br_f g4 ?_
  by_cases g5 : v2 = 2
  · subst g5
    refine br_t rfl (And.intro hv ?_)
    unfold wpY_packet
    refine zy_np0 hs hi hu ?_
    refine br_t rfl (br_f (by decide) (br_t (by decide) ?_))
    rw [zp_62]
    refine And.intro (vp_in_nI (by omega) (by omega)) ?_
    rw [nI_clamp (n := i) (by omega), nI_clamp (n := i * 6 + 2) (by omega), zp_pk2]
    exact ⟨rfl, zz_in hIn⟩
  refine br_f g5 ?_
  by_cases g6 : v2 = 3
  · subst g6
    refine br_t rfl (And.intro hv ?_)
    unfold wpY_packet
    refine zy_np0 hs hi hu ?_
    refine br_t rfl (br_f (by decide) (br_t (by decide) ?_))
    rw [zp_63]
    refine And.intro (vp_in_nI (by omega) (by omega)) ?_
    rw [nI_clamp (n := i) (by omega), nI_clamp (n := i * 6 + 3) (by omega), zp_pk3]
    exact ⟨rfl, zz_in hIn⟩
  refine br_f g6 ?_
  by_cases g7 : v2 = 4
  · subst g7
    refine br_t rfl (And.intro hv ?_)
    unfold wpY_packet
    refine zy_np0 hs hi hu ?_
    refine br_t rfl (br_f (by decide) (br_t (by decide) ?_))
    rw [zp_64]
    refine And.intro (vp_in_nI (by omega) (by omega)) ?_
    rw [nI_clamp (n := i) (by omega), nI_clamp (n := i * 6 + 4) (by omega), zp_pk4]
    exact ⟨rfl, zz_in hIn⟩
  refine br_f g7 ?_
  by_cases g8 : v2 = 5
  · subst g8
    refine br_t rfl (And.intro hv ?_)
    unfold wpY_packet
    refine zy_np0 hs hi hu ?_
    refine br_t rfl (br_f (by decide) (br_t (by decide) ?_))
    rw [zp_65]
    refine And.intro (vp_in_nI (by omega) (by omega)) ?_
    rw [nI_clamp (n := i) (by omega), nI_clamp (n := i * 6 + 5) (by omega), zp_pk5]
    exact ⟨rfl, zz_in hIn⟩
  refine br_f g8 ?_
  exact True.intro
theorem i_vc_owed {k : Nat} {u : SX} {v : SY} (I : i_Rel k u v) (hk : k + 4 ≤ 2052) (v1 : Int32) (v2 : Int32) : wpX_owed (fun r => wpY_owed (fun r' => r' = r ∧ i_Rel (k + 4) u v) v v1 v2) u v1 v2 := by
  refine zz_el (P := fun u v => wpX_owed (fun r => wpY_owed (fun r' => r' = r ∧ i_Rel (k + 4) u v) v v1 v2) u v1 v2) ?_ I
  intro n l L s D up fl co us sd rc og ps pa pb rm ds se mk cm wk hI
  have hIn := hI
  obtain ⟨⟨hn, hl60, hL, hs, hn2⟩, hok, hco, hlk, hpk, hrm⟩ := hI
  by_cases hp : zd_pr n v1 v2
  rotate_left
  · refine zx_owedn hn hp ?_
    refine zy_owedn hn hp ?_
    exact ⟨rfl, zz_in hIn⟩
  obtain ⟨a, b, ha, hb, hab, rfl, rfl⟩ := hp
  by_cases hu : up (a * 8 + b) = 0
  · refine zx_owed0 hn ha hb hab hu ?_
    refine zy_owed0 hn ha hb hab hu ?_
    exact ⟨rfl, zz_in hIn⟩
  refine zx_owed hn ha hb hab hu ?_
  refine zy_owed hn ha hb hab hu ?_
  exact ⟨rfl, zz_in hIn⟩
theorem i_vc_link {k : Nat} {u : SX} {v : SY} (I : i_Rel k u v) (hk : k + 4 ≤ 2052) (v1 : Int32) (v2 : Int32) : wpX_link (fun r => wpY_link (fun r' => r' = r ∧ i_Rel (k + 4) u v) v v1 v2) u v1 v2 := by
  refine zz_el (P := fun u v => wpX_link (fun r => wpY_link (fun r' => r' = r ∧ i_Rel (k + 4) u v) v v1 v2) u v1 v2) ?_ I
  intro n l L s D up fl co us sd rc og ps pa pb rm ds se mk cm wk hI
  have hIn := hI
  obtain ⟨⟨hn, hl60, hL, hs, hn2⟩, hok, hco, hlk, hpk, hrm⟩ := hI
  unfold wpX_link
  by_cases hp : zd_pr n v1 v2
  rotate_left
  · refine zx_lkn hn hp ?_
    refine br_t rfl ?_
    unfold wpY_link
    refine zy_bp1 hn hp ?_
    exact br_f zp_10 ⟨rfl, zz_in hIn⟩
  obtain ⟨a, b, ha, hb, hab, rfl, rfl⟩ := hp
  have hv1 : vp_in (nI (a * 8 + b)) 64 := vp_in_nI (by omega) (by omega)
  have q1 : a * 8 + b < 2 ^ 31 := by omega
  by_cases hu : up (a * 8 + b) = 0
  · refine zx_lk0 hn ha hb hab hu ?_
    refine br_t rfl ?_
    unfold wpY_link
    refine zy_bp0 hn ha hb hab ?_
    refine br_t rfl ?_
    rw [zp_cell]
    refine And.intro hv1 ?_
    exact zb_t q1 (zp_sf0.mpr hu) ⟨rfl, zz_in hIn⟩
  have hst : ¬ zd_sf up fl (a * 8 + b) = 0 := fun z => hu (zp_sf0.mp z)
  refine zx_lk1 hn ha hb hab hu ?_
  refine br_f zp_10 ?_
  refine zx_cell a b ?_
  refine And.intro hv1 ?_
  by_cases hf : fl (a * 8 + b) = 0
  · refine zb_t q1 hf (And.intro hv1 ?_)
    unfold wpY_link
    refine zy_bp0 hn ha hb hab ?_
    refine br_t rfl ?_
    rw [zp_cell]
    refine And.intro hv1 (zb_f q1 hst (And.intro hv1 ?_))
    exact zb_f q1 (fun z => (zp_sf2.mp z).2 hf) (And.intro hv1 ⟨rfl, zz_in hIn⟩)
  · refine zb_f q1 hf (And.intro hv1 ?_)
    unfold wpY_link
    refine zy_bp0 hn ha hb hab ?_
    refine br_t rfl ?_
    rw [zp_cell]
    refine And.intro hv1 (zb_f q1 hst (And.intro hv1 ?_))
    exact zb_t q1 (zp_sf2.mpr ⟨hu, hf⟩) (And.intro hv1 ⟨rfl, zz_in hIn⟩)
theorem i_vc_distance {k : Nat} {u : SX} {v : SY} (I : i_Rel k u v) (hk : k + 4 ≤ 2052) (v1 : Int32) (v2 : Int32) : wpX_distance (fun r u' => wpY_distance (fun r' v' => r' = r ∧ i_Rel (k + 4) u' v') v v1 v2) u v1 v2 := by
  refine zz_el (P := fun u v => wpX_distance (fun r u' => wpY_distance (fun r' v' => r' = r ∧ i_Rel (k + 4) u' v') v v1 v2) u v1 v2) ?_ I
  intro n l L s D up fl co us sd rc og ps pa pb rm ds se mk cm wk hI
  have hIn := hI
  obtain ⟨⟨hn, hl60, hL, hs, hn2⟩, hok, hco, hlk, hpk, hrm⟩ := hI
  unfold wpX_distance
  rcases zp_ix n (by omega) v1 with h1 | ⟨a, ha, rfl⟩
  · refine zx_valid0 h1 ?_
    refine br_t rfl ?_
    unfold wpY_distance
    refine zy_bad1 h1 ?_
    exact br_f zp_10 ⟨rfl, zz_in hIn⟩
  refine zx_valid1 hn ha ?_
  refine br_f zp_10 ?_
  rcases zp_ix n (by omega) v2 with h2 | ⟨q, hq, rfl⟩
  · refine zx_valid0 h2 ?_
    refine br_t rfl ?_
    unfold wpY_distance
    refine zy_bad0 hn ha ?_
    refine br_t rfl ?_
    refine zy_bad1 h2 ?_
    exact br_f zp_10 ⟨rfl, zz_in hIn⟩
  refine zx_valid1 hn hq ?_
  refine br_f zp_10 ?_
  refine zx_measure hok hn (by omega) hq (fun ds' se' hF => ?_)
  refine And.intro (vp_in_nI (by omega) (by omega)) ?_
  rw [nI_clamp (n := a) (by omega)]
  unfold wpY_distance
  refine zy_bad0 hn ha ?_
  refine br_t rfl ?_
  refine zy_bad0 hn hq ?_
  refine br_t rfl ?_
  refine zy_least hok hn (by omega) hq ha (fun r wk' hL => ?_)
  exact ⟨zw_LF ha hF hL, zz_in hIn⟩
theorem i_vc_quiet {k : Nat} {u : SX} {v : SY} (I : i_Rel k u v) (hk : k + 4 ≤ 2052) : wpX_quiet (fun r => wpY_quiet (fun r' => r' = r ∧ i_Rel (k + 4) u v) v) u := by
  refine zz_el (P := fun u v => wpX_quiet (fun r => wpY_quiet (fun r' => r' = r ∧ i_Rel (k + 4) u v) v) u) ?_ I
  intro n l L s D up fl co us sd rc og ps pa pb rm ds se mk cm wk hI
  have hIn := hI
  obtain ⟨⟨hn, hl60, hL, hs, hn2⟩, hok, hco, hlk, hpk, hrm⟩ := hI
  obtain ⟨s1, s2, s3⟩ := zp_sr0 (fun i => !decide (us i = 0)) s
  by_cases hU : zd_sr (fun i => !decide (us i = 0)) 0 s < s
  · have g1 : ∀ i, i < zd_sr (fun i => !decide (us i = 0)) 0 s → us i = 0 := fun i hi => by
      have h := s2 i hi
      have h' : (!decide (us i = 0)) = false := h
      rw [Bool.not_eq_false', decide_eq_true_iff] at h'
      exact h'
    have g2 : ¬ us (zd_sr (fun i => !decide (us i = 0)) 0 s) = 0 := by
      have h := s3 hU
      have h' : (!decide (us (zd_sr (fun i => !decide (us i = 0)) 0 s) = 0)) = true := h
      rw [Bool.not_eq_true', decide_eq_false_iff_not] at h'
      exact h'
    refine zx_quietU hs hU g1 g2 ?_
    refine zy_quietU hs hU g1 g2 ?_
    exact ⟨rfl, zz_in hIn⟩
  have hq : ∀ i, i < s → us i = 0 := fun i hi => by
    have h := s2 i (by omega)
    have h' : (!decide (us i = 0)) = false := h
    rw [Bool.not_eq_false', decide_eq_true_iff] at h'
    exact h'
  have hrow : ∀ a, (∀ b, b < n → zd_q n L up fl D a b = false) ∨ ∃ B, B < n ∧ zd_q n L up fl D a B = true ∧ ∀ b, b < B → zd_q n L up fl D a b = false := by
    intro a
    obtain ⟨t1, t2, t3⟩ := zp_sr0 (fun b => zd_q n L up fl D a b) n
    by_cases h : zd_sr (fun b => zd_q n L up fl D a b) 0 n < n
    · exact Or.inr ⟨_, h, t3 h, t2⟩
    · exact Or.inl (fun b hb => t2 b (by omega))
  by_cases hall : ∀ a b, a < n → b < n → zd_q n L up fl D a b = false
  · refine zx_quiet1 hn hs hq hall ?_
    refine zy_quiet1 hok hn hs hq hall ?_
    exact ⟨rfl, zz_in hIn⟩
  · have hex : ∃ a, a < n ∧ ∃ B, B < n ∧ zd_q n L up fl D a B = true := by
      apply Classical.byContradiction
      intro hno
      apply hall
      intro a b ha hb
      exact zp_nf (fun z => hno ⟨a, ha, b, hb, z⟩)
    obtain ⟨A, ⟨hA, B0, hB0, hT0⟩, hmin⟩ := pk_least (fun a => a < n ∧ ∃ B, B < n ∧ zd_q n L up fl D a B = true) hex
    have hc : ∀ a b, a < A → b < n → zd_q n L up fl D a b = false := fun a b ha hb => zp_nf (fun z => hmin a ha ⟨by omega, b, hb, z⟩)
    rcases hrow A with h | ⟨B, hB, hT, hc2⟩
    · exact absurd (hT0.symm.trans (h B0 hB0)) (by decide)
    · refine zx_quiet0 hn hs hq hA hB hc hc2 hT ?_
      refine zy_quiet0 hok hn hs hq hA hB hc hc2 hT ?_
      exact ⟨rfl, zz_in hIn⟩
end
section
/- the next hop -/
def zw_c (e : Nat → Nat → Nat) (ds : Nat → Int32) (a : Nat) : Nat → Bool := fun k => decide (0 < e a k ∧ ¬ ds k < 0 ∧ ds k + nI (e a k) = ds a)
theorem zw_Fv {n q v : Nat} {e : Nat → Nat → Nat} {ds : Nat → Int32} (hF : zw_F n e q ds) (hv : v < n) (h : ¬ ds v < 0) : ∃ k, k < 50 ∧ ds v = nI k := by
  rcases hF v hv with ⟨h1, _⟩ | ⟨k, hk, h1, _⟩
  · rw [h1] at h; exact absurd zp_m1 h
  · exact ⟨k, hk, h1⟩
section
variable {n l L s : Nat} {D : zd_DB} {up fl co us sd rc og ps pa pb rm ds se : Nat → Int32}
theorem zx_nh {post : Int32 → SX → Prop} {a q : Nat} (hk : zd_ok D) (hn : n ≤ 8) (ha : a < n) (hF : zw_F n (zw_e D.2.2 a) q ds)
    (h1 : zd_sr (zw_c (zw_e D.2.2 a) ds a) 0 n < n → post (nI (zd_sr (zw_c (zw_e D.2.2 a) ds a) 0 n)) (nI n, nI l, nI L, nI s, D.1, D.2.1, D.2.2, up, fl, co, us, sd, rc, og, ps, pa, pb, rm, ds, se)) (h0 : ¬ zd_sr (zw_c (zw_e D.2.2 a) ds a) 0 n < n → post (-1) (nI n, nI l, nI L, nI s, D.1, D.2.1, D.2.2, up, fl, co, us, sd, rc, og, ps, pa, pb, rm, ds, se)) : ∃ m, wX_nextHop_33 post (nI a) (nI n) (nI l) (nI L) (nI s) D.1 D.2.1 D.2.2 up fl co us sd rc og ps pa pb rm ds se m 0 := by
  obtain ⟨g1, g2, g3⟩ := zp_sr0 (zw_c (zw_e D.2.2 a) ds a) n
  have va : vp_in (nI a) 8 := vp_in_nI (by omega) (by omega)
  have cont : ∀ m i, i < n → zw_c (zw_e D.2.2 a) ds a i = false → wX_nextHop_33 post (nI a) (nI n) (nI l) (nI L) (nI s) D.1 D.2.1 D.2.2 up fl co us sd rc og ps pa pb rm ds se m (nI (i + 1)) → wX_nextHop_33 post (nI a) (nI n) (nI l) (nI L) (nI s) D.1 D.2.1 D.2.2 up fl co us sd rc og ps pa pb rm ds se (m + 1) (nI i) := by
    intro m i hi hc h
    have hc := of_decide_eq_false hc
    have vi : vp_in (nI i) 8 := vp_in_nI (by omega) (by omega)
    have hlt := zw_x_lt D.2.2 a a i
    refine br_f (nI_ge hi (by omega)) ?_
    refine zx_edge hk (by omega) (by omega) (by omega) ?_
    by_cases p0 : 0 < zw_x D.2.2 a a i
    rotate_left
    · exact br_t (by rw [show zw_x D.2.2 a a i = 0 by omega, nI_0]; exact Int32.le_rfl) (nm_r (nI_1 i) h)
    refine br_f (nI_nle p0 (by omega)) (And.intro vi ?_)
    rw [nI_clamp (n := i) (by omega), nI_clamp (n := a) (by omega)]
    by_cases p1 : ds i < 0
    · exact br_t p1 (nm_r (nI_1 i) h)
    refine br_f p1 (And.intro vi (And.intro va ?_))
    refine br_f (fun z => ?_) (nm_r (nI_1 i) h)
    by_cases hai : a = i
    · obtain ⟨k, hk50, ek⟩ := zw_Fv hF hi p1
      rw [hai, ek, nI_add, nI_eq (by rw [hai] at hlt; omega) (by omega)] at z
      rw [hai] at p0
      omega
    · apply hc
      rw [zw_e_x hai]
      exact ⟨p0, p1, z⟩
  by_cases hq : zd_sr (zw_c (zw_e D.2.2 a) ds a) 0 n < n
  · have hp := h1 hq
    refine zp_l0 (fun m i => wX_nextHop_33 post (nI a) (nI n) (nI l) (nI L) (nI s) D.1 D.2.1 D.2.2 up fl co us sd rc og ps pa pb rm ds se m (nI i)) (zd_sr (zw_c (zw_e D.2.2 a) ds a) 0 n) ?_ ?_
    · intro m
      have hc := of_decide_eq_true (g3 hq)
      generalize zd_sr (zw_c (zw_e D.2.2 a) ds a) 0 n = i at *
      have hai : a ≠ i := fun z => by
        have := hc.1
        rw [← z, zw_e_s] at this
        omega
      rw [zw_e_x hai] at hc
      have hlt := zw_x_lt D.2.2 a a i
      have vi : vp_in (nI i) 8 := vp_in_nI (by omega) (by omega)
      refine br_f (nI_ge hq (by omega)) ?_
      refine zx_edge hk (by omega) (by omega) (by omega) ?_
      refine br_f (nI_nle hc.1 (by omega)) (And.intro vi ?_)
      rw [nI_clamp (n := i) (by omega), nI_clamp (n := a) (by omega)]
      refine br_f hc.2.1 (And.intro vi (And.intro va ?_))
      exact br_t hc.2.2 hp
    · intro m i hi h
      exact cont m i (by omega) (g2 i hi) h
  · have hp := h0 hq
    refine zp_l0 (fun m i => wX_nextHop_33 post (nI a) (nI n) (nI l) (nI L) (nI s) D.1 D.2.1 D.2.2 up fl co us sd rc og ps pa pb rm ds se m (nI i)) n ?_ ?_
    · intro m
      exact br_t (nI_le (Nat.le_refl n) (by omega)) hp
    · intro m i hi h
      exact cont m i hi (g2 i (by omega)) h
end
section
variable {n l L s : Nat} {D : zd_DB} {up fl co us sd rc og ps pa pb mk cm wk : Nat → Int32}
theorem zy_nh {post : Int32 → SY → Prop} {a q : Nat} {dd : Nat → Int32} (hk : zd_ok D) (hn : n ≤ 8) (ha : a < n) (hq : q < n) (hF : zw_F n (zw_e D.2.2 a) q dd)
    (h1 : zd_sr (zw_c (zw_e D.2.2 a) dd a) 0 n < n → ∀ wk', post (nI (zd_sr (zw_c (zw_e D.2.2 a) dd a) 0 n)) (nI n, nI l, nI L, nI s, zd_sf up fl, co, D.1, D.2.1, D.2.2, us, zd_pk sd rc og ps pa pb, mk, cm, wk')) (h0 : ¬ zd_sr (zw_c (zw_e D.2.2 a) dd a) 0 n < n → ∀ wk', post (-1) (nI n, nI l, nI L, nI s, zd_sf up fl, co, D.1, D.2.1, D.2.2, us, zd_pk sd rc og ps pa pb, mk, cm, wk')) : ∃ m, wY_nextHop_42 post (nI a) (nI q) (dd a) m 0 (nI n) (nI l) (nI L) (nI s) (zd_sf up fl) co D.1 D.2.1 D.2.2 us (zd_pk sd rc og ps pa pb) mk cm wk := by
  obtain ⟨g1, g2, g3⟩ := zp_sr0 (zw_c (zw_e D.2.2 a) dd a) n
  have cont : ∀ m i, i < n → zw_c (zw_e D.2.2 a) dd a i = false → (∀ wk, wY_nextHop_42 post (nI a) (nI q) (dd a) m (nI (i + 1)) (nI n) (nI l) (nI L) (nI s) (zd_sf up fl) co D.1 D.2.1 D.2.2 us (zd_pk sd rc og ps pa pb) mk cm wk) → ∀ wk, wY_nextHop_42 post (nI a) (nI q) (dd a) (m + 1) (nI i) (nI n) (nI l) (nI L) (nI s) (zd_sf up fl) co D.1 D.2.1 D.2.2 us (zd_pk sd rc og ps pa pb) mk cm wk := by
    intro m i hi hc h wk
    have hc := of_decide_eq_false hc
    have hlt := zw_e_lt D.2.2 a a i
    refine br_f (nI_ge hi (by omega)) ?_
    refine zy_edge hk (by omega) (by omega) (by omega) ?_
    by_cases p0 : 0 < zw_e D.2.2 a a i
    rotate_left
    · exact br_t (by rw [show zw_e D.2.2 a a i = 0 by omega, nI_0]; exact Int32.le_rfl) (nm_r (nI_1 i) (h wk))
    refine br_f (nI_nle p0 (by omega)) ?_
    refine zy_least hk hn (by omega) hq hi (fun r wk' hL => ?_)
    have er := zw_LF hi hF hL
    subst er
    by_cases p1 : dd i < 0
    · exact br_t p1 (nm_r (nI_1 i) (h wk'))
    refine br_f p1 ?_
    refine br_f (fun z => ?_) (nm_r (nI_1 i) (h wk'))
    exact hc ⟨p0, p1, by rw [Int32.add_comm]; exact z⟩
  by_cases hs : zd_sr (zw_c (zw_e D.2.2 a) dd a) 0 n < n
  · have hp := h1 hs
    have go : ∃ m, ∀ wk, wY_nextHop_42 post (nI a) (nI q) (dd a) m (nI 0) (nI n) (nI l) (nI L) (nI s) (zd_sf up fl) co D.1 D.2.1 D.2.2 us (zd_pk sd rc og ps pa pb) mk cm wk := by
      refine zp_l0 (fun m i => ∀ wk, wY_nextHop_42 post (nI a) (nI q) (dd a) m (nI i) (nI n) (nI l) (nI L) (nI s) (zd_sf up fl) co D.1 D.2.1 D.2.2 us (zd_pk sd rc og ps pa pb) mk cm wk) (zd_sr (zw_c (zw_e D.2.2 a) dd a) 0 n) ?_ ?_
      · intro m wk
        have hc := of_decide_eq_true (g3 hs)
        generalize zd_sr (zw_c (zw_e D.2.2 a) dd a) 0 n = i at *
        have hlt := zw_e_lt D.2.2 a a i
        refine br_f (nI_ge hs (by omega)) ?_
        refine zy_edge hk (by omega) (by omega) (by omega) ?_
        refine br_f (nI_nle hc.1 (by omega)) ?_
        refine zy_least hk hn (by omega) hq hs (fun r wk' hL => ?_)
        have er := zw_LF hs hF hL
        subst er
        refine br_f hc.2.1 ?_
        exact br_t (by rw [Int32.add_comm]; exact hc.2.2) (hp wk')
      · intro m i hi h
        exact cont m i (by omega) (g2 i hi) h
    obtain ⟨m, h⟩ := go
    exact ⟨m, h wk⟩
  · have hp := h0 hs
    have go : ∃ m, ∀ wk, wY_nextHop_42 post (nI a) (nI q) (dd a) m (nI 0) (nI n) (nI l) (nI L) (nI s) (zd_sf up fl) co D.1 D.2.1 D.2.2 us (zd_pk sd rc og ps pa pb) mk cm wk := by
      refine zp_l0 (fun m i => ∀ wk, wY_nextHop_42 post (nI a) (nI q) (dd a) m (nI i) (nI n) (nI l) (nI L) (nI s) (zd_sf up fl) co D.1 D.2.1 D.2.2 us (zd_pk sd rc og ps pa pb) mk cm wk) n ?_ ?_
      · intro m wk
        exact br_t (nI_le (Nat.le_refl n) (by omega)) (hp wk)
      · intro m i hi h
        exact cont m i hi (g2 i (by omega)) h
    obtain ⟨m, h⟩ := go
    exact ⟨m, h wk⟩
end
theorem i_vc_nextHop {k : Nat} {u : SX} {v : SY} (I : i_Rel k u v) (hk : k + 4 ≤ 2052) (v1 : Int32) (v2 : Int32) : wpX_nextHop (fun r u' => wpY_nextHop (fun r' v' => r' = r ∧ i_Rel (k + 4) u' v') v v1 v2) u v1 v2 := by
  refine zz_el (P := fun u v => wpX_nextHop (fun r u' => wpY_nextHop (fun r' v' => r' = r ∧ i_Rel (k + 4) u' v') v v1 v2) u v1 v2) ?_ I
  intro n l L s D up fl co us sd rc og ps pa pb rm ds se mk cm wk hI
  have hIn := hI
  obtain ⟨⟨hn, hl60, hL, hs, hn2⟩, hok, hco, hlk, hpk, hrm⟩ := hI
  unfold wpX_nextHop
  rcases zp_ix n (by omega) v1 with h1 | ⟨a, ha, rfl⟩
  · refine zx_valid0 h1 ?_
    refine br_t rfl ?_
    unfold wpY_nextHop
    refine zy_bad1 h1 ?_
    exact br_f zp_10 ⟨rfl, zz_in hIn⟩
  refine zx_valid1 hn ha ?_
  refine br_f zp_10 ?_
  rcases zp_ix n (by omega) v2 with h2 | ⟨q, hq, rfl⟩
  · refine zx_valid0 h2 ?_
    refine br_t rfl ?_
    unfold wpY_nextHop
    refine zy_bad0 hn ha ?_
    refine br_t rfl ?_
    refine zy_bad1 h2 ?_
    exact br_f zp_10 ⟨rfl, zz_in hIn⟩
  refine zx_valid1 hn hq ?_
  refine br_f zp_10 ?_
  by_cases haq : a = q
  · refine br_t (congrArg nI haq) ?_
    unfold wpY_nextHop
    refine zy_bad0 hn ha ?_
    refine br_t rfl ?_
    refine zy_bad0 hn hq ?_
    refine br_t rfl ?_
    exact br_t (congrArg nI haq) ⟨rfl, zz_in hIn⟩
  have hne := zp_ne (show a < 2 ^ 31 by omega) (show q < 2 ^ 31 by omega) haq
  refine br_f hne ?_
  refine zx_measure hok hn (by omega) hq (fun ds' se' hF => ?_)
  have yy : ∀ {P : Int32 → SY → Prop}, (∀ r wk', r = ds' a → (0 ≤ r → ∃ m, wY_nextHop_42 P (nI a) (nI q) r m 0 (nI n) (nI l) (nI L) (nI s) (zd_sf up fl) co D.1 D.2.1 D.2.2 us (zd_pk sd rc og ps pa pb) mk cm wk') ∧ (¬ 0 ≤ r → P (-1) (nI n, nI l, nI L, nI s, zd_sf up fl, co, D.1, D.2.1, D.2.2, us, zd_pk sd rc og ps pa pb, mk, cm, wk'))) → wpY_nextHop P (nI n, nI l, nI L, nI s, zd_sf up fl, co, D.1, D.2.1, D.2.2, us, zd_pk sd rc og ps pa pb, mk, cm, wk) (nI a) (nI q) := by
    intro P h
    unfold wpY_nextHop
    refine zy_bad0 hn ha ?_
    refine br_t rfl ?_
    refine zy_bad0 hn hq ?_
    refine br_t rfl ?_
    refine br_f hne ?_
    refine zy_least hok hn (by omega) hq ha (fun r wk' hL => ?_)
    exact h r wk' (zw_LF ha hF hL)
  refine zx_nh hok hn ha hF (fun hs1 => ?_) (fun hs0 => ?_)
  · refine yy (fun r wk' er => ?_)
    subst er
    have hc := of_decide_eq_true ((zp_sr0 (zw_c (zw_e D.2.2 a) ds' a) n).2.2 hs1)
    have hpos : 0 ≤ ds' a := by
      obtain ⟨k1, hk1, e1⟩ := zw_Fv hF hs1 hc.2.1
      have hlt := zw_e_lt D.2.2 a a (zd_sr (zw_c (zw_e D.2.2 a) ds' a) 0 n)
      rw [← hc.2.2, e1, nI_add]
      exact nI_pos' (by omega)
    refine br_t hpos ?_
    exact zy_nh hok hn ha hq hF (fun _ wk2 => ⟨rfl, zz_in hIn⟩) (fun z => absurd hs1 z)
  · refine yy (fun r wk' er => ?_)
    subst er
    refine br_c (fun _ => ?_) (fun _ => ⟨rfl, zz_in hIn⟩)
    exact zy_nh hok hn ha hq hF (fun z => absurd z hs0) (fun _ wk2 => ⟨rfl, zz_in hIn⟩)
end
