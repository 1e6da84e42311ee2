section
/-! pure rows to paste: stores, nI and lN arithmetic, masks, shifts, narrowing, branches by naturals (pk_le, pk_lt, pk_eq), loops (lp1 .. lp16: the measure of the state; rp1 ..: recursion), negatives. Take what you need -/
theorem pk_us {f : Nat → Int32} {k : Nat} {x : Int32} : upd f k x k = x := if_pos rfl
theorem pk_un {f : Nat → Int32} {k j : Nat} {x : Int32} (h : j ≠ k) : upd f k x j = f j := if_neg h
theorem pk_uLs {f : Nat → Int64} {k : Nat} {x : Int64} : vp_updL f k x k = x := if_pos rfl
theorem pk_uLn {f : Nat → Int64} {k j : Nat} {x : Int64} (h : j ≠ k) : vp_updL f k x j = f j := if_neg h
theorem pk_sub {a b : Nat} (h : b ≤ a) : nI a - nI b = nI (a - b) := by
  obtain ⟨c, rfl⟩ : ∃ c, a = c + b := ⟨a - b, by omega⟩
  rw [← nI_add, Int32.add_sub_cancel, Nat.add_sub_cancel]
theorem pk_m1 (n : Nat) : nI (n + 1) + (-1) = nI n := by
  rw [← nI_1, Int32.add_assoc, show (1 : Int32) + (-1) = 0 from rfl, Int32.add_zero]
theorem pk_mul (a b : Nat) : nI a * nI b = nI (a * b) := (Int32.ofNat_mul a b).symm
theorem pk_div {a d : Nat} (ha : a < 2 ^ 31) (h0 : 0 < d) (hd : d < 2 ^ 31) : nI a / nI d = nI (a / d) := by
  apply Int32.toInt_inj.mp
  rw [lg_idiv_nonneg (by rw [nI_toInt ha]; omega) (by rw [nI_toInt hd]; omega), nI_toInt ha, nI_toInt hd, nI_toInt (Nat.lt_of_le_of_lt (Nat.div_le_self a d) ha)]
  first | rfl | exact (Int.natCast_ediv _ _).symm
theorem pk_rem {a d : Nat} (ha : a < 2 ^ 31) (h0 : 0 < d) (hd : d < 2 ^ 31) : nI a - nI a / nI d * nI d = nI (a % d) := by
  rw [pk_div ha h0 hd, pk_mul, pk_sub (Nat.div_mul_le_self a d)]
  exact congrArg nI (by have := Nat.div_add_mod' a d; omega)
theorem pk_sub_toInt {a b : Nat} (ha : a < 2 ^ 30) (hb : b < 2 ^ 30) : (nI a - nI b).toInt = (a : Int) - b := by
  rw [Int32.toInt_sub, nI_toInt (by omega), nI_toInt (by omega)]
  exact Int.bmod_eq_of_le (by omega) (by omega)
theorem pk_sneg {a b : Nat} (hb : b < 2 ^ 30) (h : a < b) : nI a - nI b < 0 := by
  rw [Int32.lt_iff_toInt_lt, pk_sub_toInt (by omega) hb, show (0 : Int32).toInt = 0 from by decide]
  omega
theorem pk_ix (x : Int32) {n : Nat} (hn : n < 2 ^ 31) : x < 0 ∨ nI n ≤ x ∨ ∃ j : Nat, j < n ∧ x = nI j := by
  by_cases h : x < 0
  · exact Or.inl h
  · obtain ⟨j, hj, rfl⟩ := nI_of h
    by_cases h2 : j < n
    · exact Or.inr (Or.inr ⟨j, h2, rfl⟩)
    · exact Or.inr (Or.inl (nI_le (by omega) hj))
theorem pk_le {x y : Int32} {A B : Prop} (a b : Nat) (f : a ≤ b → A) (g : b < a → B) (hx : x = nI a := by rfl) (hy : y = nI b := by rfl) (ha : a < 2 ^ 31 := by omega) (hb : b < 2 ^ 31 := by omega) : (x ≤ y → A) ∧ (¬ x ≤ y → B) := by
  subst hx hy
  rw [nI_leI ha hb]
  exact ⟨f, fun z => g (by omega)⟩
theorem pk_lt {x y : Int32} {A B : Prop} (a b : Nat) (f : a < b → A) (g : b ≤ a → B) (hx : x = nI a := by rfl) (hy : y = nI b := by rfl) (ha : a < 2 ^ 31 := by omega) (hb : b < 2 ^ 31 := by omega) : (x < y → A) ∧ (¬ x < y → B) := by
  subst hx hy
  rw [nI_ltI ha hb]
  exact ⟨f, fun z => g (by omega)⟩
theorem pk_eq {x y : Int32} {A B : Prop} (a b : Nat) (f : a = b → A) (g : a ≠ b → B) (hx : x = nI a := by rfl) (hy : y = nI b := by rfl) (ha : a < 2 ^ 31 := by omega) (hb : b < 2 ^ 31 := by omega) : (x = y → A) ∧ (¬ x = y → B) := by
  subst hx hy
  rw [nI_eq ha hb]
  exact ⟨f, g⟩
theorem pk_in {x : Int32} (n N : Nat) (h : n < N) (hx : x = nI n := by rfl) (hN : N < 2 ^ 31 := by omega) : vp_in x N := by
  subst hx
  exact vp_in_nI h hN
theorem pk_cl {x : Int32} (n : Nat) (hx : x = nI n := by rfl) (h : n < 2 ^ 31 := by omega) : x.toNatClampNeg = n := by
  subst hx
  exact nI_clamp h
theorem pk_tn {n : Nat} (h : n < 2 ^ 32) : (nI n).toBitVec.toNat = n := Nat.mod_eq_of_lt h
theorem pk_and (x : Int32) {m : Int32} (k : Nat) (hm : m.toBitVec.toNat = 2 ^ k - 1) : x &&& m = nI (x.toBitVec.toNat % 2 ^ k) := by
  apply Int32.toBitVec_inj.mp
  apply BitVec.eq_of_toNat_eq
  rw [Int32.toBitVec_and, BitVec.toNat_and, hm, Nat.and_two_pow_sub_one_eq_mod]
  show _ = (BitVec.ofNat 32 _).toNat
  rw [BitVec.toNat_ofNat]
  exact (Nat.mod_eq_of_lt (Nat.lt_of_le_of_lt (Nat.mod_le _ _) x.toBitVec.isLt)).symm
theorem pk_andN {n : Nat} (h : n < 2 ^ 32) {m : Int32} (k : Nat) (hm : m.toBitVec.toNat = 2 ^ k - 1) : nI n &&& m = nI (n % 2 ^ k) := by
  rw [pk_and _ k hm, pk_tn h]
theorem pk_andE (x : Int32) {m : Int32} (k : Nat) (hm : m.toBitVec.toNat = 2 ^ k - 1) : ∃ j : Nat, j < 2 ^ k ∧ x &&& m = nI j := ⟨_, Nat.mod_lt _ (Nat.two_pow_pos k), pk_and x k hm⟩
theorem pk_andIn (x : Int32) {m : Int32} (k : Nat) (hm : m.toBitVec.toNat = 2 ^ k - 1) (hk : k ≤ 30) : vp_in (x &&& m) (2 ^ k) := by
  obtain ⟨j, hj, e⟩ := pk_andE x k hm
  rw [e]
  exact vp_in_nI hj (Nat.lt_of_le_of_lt (Nat.pow_le_pow_right (by decide) hk) (by decide))
end
section
/-! sums and single changes of functions on small numbers -/
def dm_fu {α : Type} (f : Nat → α) (i : Nat) (v : α) : Nat → α := fun j => if j = i then v else f j
theorem dm_fs {α : Type} {f : Nat → α} {i : Nat} {v : α} : dm_fu f i v i = v := by simp [dm_fu]
theorem dm_fn {α : Type} {f : Nat → α} {i j : Nat} {v : α} (h : j ≠ i) : dm_fu f i v j = f j := by simp [dm_fu, h]
theorem dm_fself {α : Type} {f : Nat → α} {i : Nat} : dm_fu f i (f i) = f := by
  funext j; by_cases h : j = i
  · subst h; exact dm_fs
  · exact dm_fn h
theorem dm_fuu {α : Type} {f : Nat → α} {i : Nat} {v w : α} : dm_fu (dm_fu f i v) i w = dm_fu f i w := by
  funext j; by_cases h : j = i <;> simp [dm_fu, h]
theorem dm_fucomm {α : Type} {f : Nat → α} {i j : Nat} {v w : α} (h : i ≠ j) : dm_fu (dm_fu f i v) j w = dm_fu (dm_fu f j w) i v := by
  funext x
  by_cases h1 : x = i
  · subst h1; rw [dm_fn h, dm_fs, dm_fs]
  · by_cases h2 : x = j
    · subst h2; rw [dm_fs, dm_fn h1, dm_fs]
    · rw [dm_fn h2, dm_fn h1, dm_fn h1, dm_fn h2]
def dm_f2 {α : Type} (f : Nat → Nat → α) (i j : Nat) (v : α) : Nat → Nat → α := dm_fu f i (dm_fu (f i) j v)
theorem dm_f2s {α : Type} {f : Nat → Nat → α} {i j : Nat} {v : α} : dm_f2 f i j v i = dm_fu (f i) j v := dm_fs
theorem dm_f2n {α : Type} {f : Nat → Nat → α} {i j a : Nat} {v : α} (h : a ≠ i) : dm_f2 f i j v a = f a := dm_fn h
theorem dm_f2v {α : Type} (f : Nat → Nat → α) (i j : Nat) (v : α) (a b : Nat) : dm_f2 f i j v a b = if a = i ∧ b = j then v else f a b := by
  by_cases h : a = i
  · subst h; rw [dm_f2s]
    by_cases g : b = j
    · subst g; simp [dm_fs]
    · rw [dm_fn g]; simp [g]
  · rw [dm_f2n h]; simp [h]
theorem dm_lt4 {c : Nat} (h : c < 4) : c = 0 ∨ c = 1 ∨ c = 2 ∨ c = 3 := by omega
theorem dm_lt8 {c : Nat} (h : c < 8) : c = 0 ∨ c = 1 ∨ c = 2 ∨ c = 3 ∨ c = 4 ∨ c = 5 ∨ c = 6 ∨ c = 7 := by omega
def dm_s4 (f : Nat → Nat) : Nat := f 0 + f 1 + f 2 + f 3
def dm_s8 (f : Nat → Nat) : Nat := f 0 + f 1 + f 2 + f 3 + f 4 + f 5 + f 6 + f 7
theorem dm_s4_fu {f : Nat → Nat} {c v : Nat} (hc : c < 4) : dm_s4 (dm_fu f c v) + f c = dm_s4 f + v := by
  rcases dm_lt4 hc with rfl | rfl | rfl | rfl <;> simp [dm_s4, dm_fu] <;> omega
theorem dm_s8_fu {f : Nat → Nat} {c v : Nat} (hc : c < 8) : dm_s8 (dm_fu f c v) + f c = dm_s8 f + v := by
  rcases dm_lt8 hc with rfl | rfl | rfl | rfl | rfl | rfl | rfl | rfl <;> simp [dm_s8, dm_fu] <;> omega
theorem dm_s4_g {α : Type} (g : α → Nat) {f : Nat → α} {c : Nat} {v : α} (hc : c < 4) : dm_s4 (fun x => g (dm_fu f c v x)) + g (f c) = dm_s4 (fun x => g (f x)) + g v := by
  rcases dm_lt4 hc with rfl | rfl | rfl | rfl <;> simp [dm_s4, dm_fu] <;> omega
theorem dm_s8_g {α : Type} (g : α → Nat) {f : Nat → α} {c : Nat} {v : α} (hc : c < 8) : dm_s8 (fun x => g (dm_fu f c v x)) + g (f c) = dm_s8 (fun x => g (f x)) + g v := by
  rcases dm_lt8 hc with rfl | rfl | rfl | rfl | rfl | rfl | rfl | rfl <;> simp [dm_s8, dm_fu] <;> omega
theorem dm_s4_le {f : Nat → Nat} {c : Nat} (hc : c < 4) : f c ≤ dm_s4 f := by
  rcases dm_lt4 hc with rfl | rfl | rfl | rfl <;> simp only [dm_s4] <;> omega
theorem dm_s8_le {f : Nat → Nat} {c : Nat} (hc : c < 8) : f c ≤ dm_s8 f := by
  rcases dm_lt8 hc with rfl | rfl | rfl | rfl | rfl | rfl | rfl | rfl <;> simp only [dm_s8] <;> omega
theorem dm_s4_le2 {f : Nat → Nat} {c e : Nat} (hc : c < 4) (he : e < 4) (h : c ≠ e) : f c + f e ≤ dm_s4 f := by
  rcases dm_lt4 hc with rfl | rfl | rfl | rfl <;> rcases dm_lt4 he with rfl | rfl | rfl | rfl <;> simp only [dm_s4] <;> omega
theorem dm_s4_ext {f g : Nat → Nat} (h : ∀ c, c < 4 → f c = g c) : dm_s4 f = dm_s4 g := by
  simp only [dm_s4]; rw [h 0 (by omega), h 1 (by omega), h 2 (by omega), h 3 (by omega)]
theorem dm_s8_ext {f g : Nat → Nat} (h : ∀ c, c < 8 → f c = g c) : dm_s8 f = dm_s8 g := by
  simp only [dm_s8]; rw [h 0 (by omega), h 1 (by omega), h 2 (by omega), h 3 (by omega), h 4 (by omega), h 5 (by omega), h 6 (by omega), h 7 (by omega)]
theorem dm_s4_pos {f : Nat → Nat} (h : 1 ≤ dm_s4 f) : ∃ c, c < 4 ∧ 1 ≤ f c := by
  simp only [dm_s4] at h
  rcases Nat.eq_zero_or_pos (f 0) with h0 | h0
  · rcases Nat.eq_zero_or_pos (f 1) with h1 | h1
    · rcases Nat.eq_zero_or_pos (f 2) with h2 | h2
      · exact ⟨3, by omega, by omega⟩
      · exact ⟨2, by omega, h2⟩
    · exact ⟨1, by omega, h1⟩
  · exact ⟨0, by omega, h0⟩
theorem dm_s8_pos {f : Nat → Nat} (h : 1 ≤ dm_s8 f) : ∃ c, c < 8 ∧ 1 ≤ f c := by
  simp only [dm_s8] at h
  apply Classical.byContradiction
  intro hn
  have hz : ∀ c, c < 8 → f c = 0 := fun c hc => by
    have : ¬ 1 ≤ f c := fun h1 => hn ⟨c, hc, h1⟩
    omega
  rw [hz 0 (by omega), hz 1 (by omega), hz 2 (by omega), hz 3 (by omega), hz 4 (by omega), hz 5 (by omega), hz 6 (by omega), hz 7 (by omega)] at h
  omega
/-! the tables over the kind of a core's hold on a line -/
def dm_st (k : Nat) : Nat := if k ≤ 10 then k else k - 7
def dm_ow (k : Nat) : Nat := if k = 2 ∨ k = 3 ∨ k = 8 ∨ k = 9 then 1 else 0
def dm_sh (k : Nat) : Nat := if k = 1 ∨ k = 6 ∨ k = 7 ∨ k = 13 then 1 else 0
def dm_ro (k : Nat) : Nat := dm_sh k + 2 * dm_ow k
def dm_t2 (k : Nat) : Nat := if k = 11 ∨ k = 12 ∨ k = 13 then 1 else 0
def dm_dt (k : Nat) : Nat := if k = 3 ∨ k = 9 then 1 else 0
def dm_lv (k : Nat) : Nat := if (7 ≤ k ∧ k ≤ 10) ∨ 14 ≤ k then 1 else 0
def dm_sb (k : Nat) : Nat := if 1 ≤ k ∧ k ≤ 3 then 1 else 0
def dm_w0 (k : Nat) : Nat := if k = 4 then 1 else 0
def dm_w1 (k : Nat) : Nat := if k = 5 ∨ k = 6 then 1 else 0
def dm_w2 (k : Nat) : Nat := if 7 ≤ k ∧ k ≤ 10 then 1 else 0
def dm_w3 (k : Nat) : Nat := if 14 ≤ k then 1 else 0
def dm_nx (T2 dI R c k : Nat) : Nat := if T2 = 0 then dm_ro k else if dI = 1 then (if c = R then 1 else if dm_ro k = 0 then 0 else 1) else if c = R then 2 else 0
/-- per core -/
def dm_A (c R k gr : Nat) (ac : Int) (a0 a1 a2 n5 n6 n7 n8 n9 n10 n11 : Nat) : Prop :=
  k ≤ 17 ∧ a0 = dm_w0 k ∧ a1 = dm_w1 k ∧ a2 = dm_w2 k ∧ n11 = dm_w3 k ∧ (dm_t2 k = 1 → c = R) ∧ n9 + n10 + gr ≤ dm_t2 k ∧ (dm_t2 k = 0 → ac = 0) ∧
  n5 + n6 ≤ dm_ow k ∧ n7 ≤ dm_sh k ∧ n7 + n8 ≤ 1 ∧ (c = R → n7 + n8 = 0)
def dm_LA (k gr : Nat → Nat) (ac : Nat → Int) (n nq : Nat → Nat → Nat) (R : Nat) : Prop := ∀ c, c < 4 →
  dm_A c R (k c) (gr c) (ac c) (n 0 c + nq 0 c) (n 1 c + nq 1 c) (n 2 c + nq 2 c) (n 5 c) (n 6 c) (n 7 c) (n 8 c) (n 9 c) (n 10 c) (n 11 c)
/-- sums -/
def dm_T (aw T2 DN CB FS FM IV AK DA GR GG OW SH DT R kR : Nat) (aR : Int) (dI dA cu : Nat) : Prop :=
  aw = T2 + DN + FS + CB ∧ T2 + DN ≤ 1 ∧ FS + CB ≤ 1 ∧ FS + FM + DA + GR + GG = T2 ∧ OW ≤ 1 ∧ (OW = 1 → SH = 0 ∧ DA + GR + GG + CB = 0) ∧
  (T2 = 0 → IV + AK = 0) ∧ (T2 = 1 → R < 4 ∧ 11 ≤ kR ∧ kR ≤ 13 ∧ 1 ≤ dI ∧ dI ≤ 3) ∧
  (T2 = 1 → dI = 1 → IV + AK = 0 ∧ FM = 0 ∧ GR = 0 ∧ GG = 0 ∧ kR = 11) ∧ (T2 = 1 → dI ≠ 1 → FS = 0 ∧ CB = 0) ∧
  (T2 = 1 → dI = 3 → IV + AK = 0 ∧ GG = 0 ∧ GR = 0) ∧ (T2 = 1 → 1 ≤ IV + AK → kR ≠ 11) ∧
  (FM = 1 → kR = 12) ∧ (GR = 1 → kR = 13) ∧ (DA = 1 → kR ≠ 13) ∧ (DA + GR = 1 → (dA : Int) + aR = ((IV + AK : Nat) : Int)) ∧
  (GG = 1 → aR = ((IV + AK : Nat) : Int) ∧ 1 ≤ IV + AK) ∧ (FS + FM = 1 → aR = 0 ∧ IV + AK = 0) ∧ (cu = 1 → DT = 0 ∧ (DA = 1 → dI ≠ 3))
def dm_LT (k gr : Nat → Nat) (ac : Nat → Int) (aw : Nat) (n : Nat → Nat → Nat) (R dI dA cu : Nat) : Prop :=
  dm_T aw (dm_s4 (fun c => dm_t2 (k c))) (dm_s4 (n 3)) (dm_s4 (n 4)) (dm_s4 (n 5)) (dm_s4 (n 6)) (dm_s4 (n 7)) (dm_s4 (n 8)) (dm_s4 (n 9)) (dm_s4 (n 10)) (dm_s4 gr)
    (dm_s4 (fun c => dm_ow (k c))) (dm_s4 (fun c => dm_sh (k c))) (dm_s4 (fun c => dm_dt (k c))) R (k R) (ac R) dI dA cu
/-- roles against the directory -/
def dm_B (aw T2 FM dI R c k d nd n7 : Nat) : Prop := (aw = 0 → d = dm_ro k) ∧ (1 ≤ aw → nd = dm_nx T2 dI R c k) ∧ (T2 = 1 → dI ≠ 1 → FM = 0 → c ≠ R → dm_ro k = n7)
def dm_LB (k d nd : Nat → Nat) (aw : Nat) (n : Nat → Nat → Nat) (R dI : Nat) : Prop := ∀ c, c < 4 → dm_B aw (dm_s4 (fun c => dm_t2 (k c))) (dm_s4 (n 6)) dI R c (k c) (d c) (nd c) (n 7 c)
def dm_L0 (k gr : Nat → Nat) (ac : Nat → Int) (d nd : Nat → Nat) (aw : Nat) (n nq : Nat → Nat → Nat) (R dI dA cu : Nat) : Prop :=
  dm_LA k gr ac n nq R ∧ dm_LT k gr ac aw n R dI dA cu ∧ dm_LB k d nd aw n R dI
def dm_NQ (nq : Nat → Nat → Nat) : Nat := dm_s4 (nq 0) + dm_s4 (nq 1) + dm_s4 (nq 2)
def dm_L (k gr : Nat → Nat) (ac : Nat → Int) (d nd : Nat → Nat) (aw : Nat) (n nq : Nat → Nat → Nat) (R dI dA cu : Nat) : Prop :=
  dm_L0 k gr ac d nd aw n nq R dI dA cu ∧ (aw = 0 → dm_NQ nq = 0)
end
section
/-! counting the messages by their keys -/
def dm_cn (ky : Nat → Nat × Nat × Nat) (x : Nat × Nat × Nat) : Nat → Nat
  | 0 => 0
  | m + 1 => dm_cn ky x m + if ky m = x then 1 else 0
theorem dm_cn_ext {ky kz : Nat → Nat × Nat × Nat} {x : Nat × Nat × Nat} : ∀ m, (∀ i, i < m → ky i = kz i) → dm_cn ky x m = dm_cn kz x m := by
  intro m
  induction m with
  | zero => intro _; rfl
  | succ m ih => intro h; simp only [dm_cn]; rw [ih fun i hi => h i (by omega), h m (by omega)]
theorem dm_cn_fu {ky : Nat → Nat × Nat × Nat} {x v : Nat × Nat × Nat} {s : Nat} : ∀ m, s < m → dm_cn (dm_fu ky s v) x m + (if ky s = x then 1 else 0) = dm_cn ky x m + (if v = x then 1 else 0) := by
  intro m
  induction m with
  | zero => intro h; omega
  | succ m ih =>
    intro h
    simp only [dm_cn]
    by_cases e : s = m
    · subst e
      rw [dm_fs, dm_cn_ext (kz := ky) s (fun i hi => dm_fn (by omega))]
      omega
    · rw [dm_fn (Ne.symm e)]
      have := ih (by omega)
      omega
theorem dm_cn_take {ky : Nat → Nat × Nat × Nat} {x : Nat × Nat × Nat} {s m : Nat} (h : s ≤ m) : dm_cn (dm_fu ky s (ky m)) x m + (if ky s = x then 1 else 0) = dm_cn ky x (m + 1) := by
  simp only [dm_cn]
  by_cases e : s = m
  · subst e; rw [dm_cn_ext (kz := ky) s (fun i hi => dm_fn (by omega))]
  · exact dm_cn_fu m (by omega)
theorem dm_cn_post {ky : Nat → Nat × Nat × Nat} {x v : Nat × Nat × Nat} {m : Nat} : dm_cn (dm_fu ky m v) x (m + 1) = dm_cn ky x m + (if v = x then 1 else 0) := by
  simp only [dm_cn]
  rw [dm_fs, dm_cn_ext (kz := ky) m (fun i hi => dm_fn (by omega))]
theorem dm_cn_pos {ky : Nat → Nat × Nat × Nat} {x : Nat × Nat × Nat} {i : Nat} : ∀ m, i < m → ky i = x → 1 ≤ dm_cn ky x m := by
  intro m
  induction m with
  | zero => intro h; omega
  | succ m ih =>
    intro h e
    simp only [dm_cn]
    by_cases g : i = m
    · subst g; rw [if_pos e]; omega
    · have := ih (by omega) e; omega
theorem dm_cn_ex {ky : Nat → Nat × Nat × Nat} {x : Nat × Nat × Nat} : ∀ m, 1 ≤ dm_cn ky x m → ∃ i, i < m ∧ ky i = x := by
  intro m
  induction m with
  | zero => intro h; simp only [dm_cn] at h; omega
  | succ m ih =>
    intro h
    simp only [dm_cn] at h
    by_cases e : ky m = x
    · exact ⟨m, by omega, e⟩
    · rw [if_neg e] at h
      obtain ⟨i, hi, g⟩ := ih (by omega)
      exact ⟨i, by omega, g⟩
/-- one more, one less of a kind -/
def dm_i (n : Nat → Nat → Nat) (t c : Nat) : Nat → Nat → Nat := dm_f2 n t c (n t c + 1)
def dm_d (n : Nat → Nat → Nat) (t c : Nat) : Nat → Nat → Nat := dm_f2 n t c (n t c - 1)
theorem dm_iv (n : Nat → Nat → Nat) (t c a b : Nat) : dm_i n t c a b = n a b + if a = t ∧ b = c then 1 else 0 := by
  rw [dm_i, dm_f2v]; split
  · rename_i h; rw [h.1, h.2]
  · rfl
theorem dm_dv (n : Nat → Nat → Nat) (t c a b : Nat) : dm_d n t c a b = n a b - if a = t ∧ b = c then 1 else 0 := by
  rw [dm_d, dm_f2v]; split
  · rename_i h; rw [h.1, h.2]
  · rfl
theorem dm_in {n : Nat → Nat → Nat} {t c a : Nat} (h : a ≠ t) : dm_i n t c a = n a := dm_f2n h
theorem dm_dn {n : Nat → Nat → Nat} {t c a : Nat} (h : a ≠ t) : dm_d n t c a = n a := dm_f2n h
theorem dm_is {n : Nat → Nat → Nat} {t c : Nat} (hc : c < 4) : dm_s4 (dm_i n t c t) = dm_s4 (n t) + 1 := by
  rw [dm_i, dm_f2s]; have := dm_s4_fu (f := n t) (v := n t c + 1) hc; omega
theorem dm_ds {n : Nat → Nat → Nat} {t c : Nat} (hc : c < 4) (h : 1 ≤ n t c) : dm_s4 (dm_d n t c t) + 1 = dm_s4 (n t) := by
  rw [dm_d, dm_f2s]; have := dm_s4_fu (f := n t) (v := n t c - 1) hc; omega
def dm_tot (m : Nat → Nat → Nat) : Nat := dm_s4 (m 0) + dm_s4 (m 1) + dm_s4 (m 2) + dm_s4 (m 3) + dm_s4 (m 4) + dm_s4 (m 5) + dm_s4 (m 6) + dm_s4 (m 7) + dm_s4 (m 8) + dm_s4 (m 9) + dm_s4 (m 10) + dm_s4 (m 11)
theorem dm_lt12 {t : Nat} (h : t < 12) : t = 0 ∨ t = 1 ∨ t = 2 ∨ t = 3 ∨ t = 4 ∨ t = 5 ∨ t = 6 ∨ t = 7 ∨ t = 8 ∨ t = 9 ∨ t = 10 ∨ t = 11 := by omega
theorem dm_tot_i {n : Nat → Nat → Nat} {t c : Nat} (ht : t < 12) (hc : c < 4) : dm_tot (dm_i n t c) = dm_tot n + 1 := by
  have e := dm_is (n := n) (t := t) hc
  have g : ∀ a, a ≠ t → dm_s4 (dm_i n t c a) = dm_s4 (n a) := fun a h => by rw [dm_in h]
  rcases dm_lt12 ht with rfl | rfl | rfl | rfl | rfl | rfl | rfl | rfl | rfl | rfl | rfl | rfl <;> simp only [dm_tot] <;> simp (disch := decide) only [g] <;> rw [e] <;> omega
theorem dm_tot_d {n : Nat → Nat → Nat} {t c : Nat} (ht : t < 12) (hc : c < 4) (h : 1 ≤ n t c) : dm_tot (dm_d n t c) + 1 = dm_tot n := by
  have e := dm_ds (n := n) (t := t) hc h
  have g : ∀ a, a ≠ t → dm_s4 (dm_d n t c a) = dm_s4 (n a) := fun a h => by rw [dm_dn h]
  rcases dm_lt12 ht with rfl | rfl | rfl | rfl | rfl | rfl | rfl | rfl | rfl | rfl | rfl | rfl <;> simp only [dm_tot] <;> simp (disch := decide) only [g] <;> omega
def dm_cp (w : Nat → Int32) (i : Nat) (g : Nat → Int32) (j m : Nat) : Nat → Int32 := fun x => if i ≤ x ∧ x < i + m then g (j + (x - i)) else w x
theorem dm_cp0 (w : Nat → Int32) (i : Nat) (g : Nat → Int32) (j : Nat) : dm_cp w i g j 0 = w := by
  funext x; simp only [dm_cp]; rw [if_neg (by omega)]
theorem dm_cpS (w : Nat → Int32) (i : Nat) (g : Nat → Int32) (j m : Nat) : upd (dm_cp w i g j m) (i + m) (g (j + m)) = dm_cp w i g j (m + 1) := by
  funext x
  simp only [dm_cp, upd]
  by_cases h : x = i + m
  · rw [if_pos h, if_pos (by omega)]; congr 1; omega
  · rw [if_neg h]
    by_cases h2 : i ≤ x ∧ x < i + m
    · rw [if_pos h2, if_pos (by omega)]
    · rw [if_neg h2, if_neg (by omega)]
theorem dm_cpo {w : Nat → Int32} {i : Nat} {g : Nat → Int32} {j m x : Nat} (h : x < i ∨ i + m ≤ x) : dm_cp w i g j m x = w x := by
  simp only [dm_cp]; rw [if_neg (by omega)]
theorem dm_cpi {w : Nat → Int32} {i : Nat} {g : Nat → Int32} {j m y : Nat} (h : y < m) : dm_cp w i g j m (i + y) = g (j + y) := by
  simp only [dm_cp]; rw [if_pos (by omega)]; congr 1; omega
def dm_mc (k : Nat → Nat) (n : Nat → Nat → Nat) (dI cu : Nat) : Prop := (dm_s4 (n 4) = 0 ∧ (dm_s4 (n 9) = 0 ∨ dI ≠ 3) ∧ dm_s4 (fun c => dm_dt (k c)) = 0) ∨ cu = 1
/-- the work that is left -/
def dm_phi (n nq : Nat → Nat → Nat) (gr : Nat → Nat) : Nat :=
  5 * dm_s4 (n 0) + 4 * dm_s4 (nq 0) + 9 * dm_s4 (n 1) + 8 * dm_s4 (nq 1) + 2 * dm_s4 (n 2) + dm_s4 (nq 2) + dm_s4 (n 3) + dm_s4 (n 4) + 4 * dm_s4 (n 5) + 3 * dm_s4 (n 6) + 2 * dm_s4 (n 7) + dm_s4 (n 8) + 2 * dm_s4 (n 9) + 2 * dm_s4 (n 10) + dm_s4 (n 11) + dm_s4 gr
end
section
/-! the sums of a line, as numbers -/
section
variable {aw T2 DN CB FS FM IV AK DA GR GG OW SH DT R kR dI dA cu c x y OW' SH' DT' kR' dI' : Nat} {aR aR' : Int}
theorem dm_T_idle (h : dm_T 0 T2 DN CB FS FM IV AK DA GR GG OW SH DT R kR aR dI dA cu) : T2 = 0 ∧ DN = 0 ∧ CB = 0 ∧ FS = 0 ∧ FM = 0 ∧ IV = 0 ∧ AK = 0 ∧ DA = 0 ∧ GR = 0 ∧ GG = 0 := by
  obtain ⟨t1, t2, t3, t4, t5, t6, t7, _⟩ := h
  have := t7 (by omega)
  refine ⟨?_, ?_, ?_, ?_, ?_, ?_, ?_, ?_, ?_, ?_⟩ <;> omega
theorem dm_T_src (h : dm_T aw T2 DN CB FS FM IV AK DA GR GG OW SH DT R kR aR dI dA cu) (h1 : 1 ≤ FS + FM + DA + GR + GG) : T2 = 1 ∧ DN = 0 ∧ FS + FM + DA + GR + GG = 1 := by
  obtain ⟨t1, t2, t3, t4, t5, t6, t7, _⟩ := h
  refine ⟨?_, ?_, ?_⟩ <;> omega
theorem dm_nT_sr (h : dm_T 0 T2 DN CB FS FM IV AK DA GR GG OW SH DT R kR aR dI dA cu) (ho : OW = 0) (hc : c < 4) (hd : dI' = 1 ∨ dI' = 2) :
    dm_T 1 (T2 + 1) DN CB FS FM IV AK (DA + 1) GR GG OW SH DT c 11 0 dI' 0 cu := by
  obtain ⟨rfl, rfl, rfl, rfl, rfl, rfl, rfl, rfl, rfl, rfl⟩ := dm_T_idle h
  simp only [dm_T] at h ⊢
  obtain ⟨t1, t2, t3, t4, t5, t6, t7, t8, t9, t10, t11, t12, t13, t14, t15, t16, t17, t18, t19⟩ := h
  have q19 : cu = 1 → DT = 0 := fun z => (t19 z).1
  have q6 : OW = 1 → SH = 0 := fun z => (t6 z).1
  clear t1 t2 t3 t4 t6 t7 t8 t9 t10 t11 t12 t13 t14 t15 t16 t17 t18 t19
  refine ⟨?_, ?_, ?_, ?_, ?_, ?_, ?_, ?_, ?_, ?_, ?_, ?_, ?_, ?_, ?_, ?_, ?_, ?_, ?_⟩ <;> (intros; first | contradiction | trivial | omega | exact ⟨by omega, by trivial⟩)
theorem dm_nT_srO (h : dm_T 0 T2 DN CB FS FM IV AK DA GR GG OW SH DT R kR aR dI dA cu) (hc : c < 4) :
    dm_T 2 (T2 + 1) DN CB (FS + 1) FM IV AK DA GR GG OW SH DT c 11 0 1 dA cu := by
  obtain ⟨rfl, rfl, rfl, rfl, rfl, rfl, rfl, rfl, rfl, rfl⟩ := dm_T_idle h
  simp only [dm_T] at h ⊢
  obtain ⟨t1, t2, t3, t4, t5, t6, t7, t8, t9, t10, t11, t12, t13, t14, t15, t16, t17, t18, t19⟩ := h
  have q19 : cu = 1 → DT = 0 := fun z => (t19 z).1
  have q6 : OW = 1 → SH = 0 := fun z => (t6 z).1
  clear t1 t2 t3 t4 t6 t7 t8 t9 t10 t11 t12 t13 t14 t15 t16 t17 t18 t19
  refine ⟨?_, ?_, ?_, ?_, ?_, ?_, ?_, ?_, ?_, ?_, ?_, ?_, ?_, ?_, ?_, ?_, ?_, ?_, ?_⟩ <;> (intros; first | contradiction | trivial | omega | exact ⟨by omega, by trivial⟩)
theorem dm_nT_swO (h : dm_T 0 T2 DN CB FS FM IV AK DA GR GG OW SH DT R kR aR dI dA cu) (hc : c < 4) :
    dm_T 1 (T2 + 1) DN CB FS (FM + 1) IV AK DA GR GG OW SH DT c 12 0 2 dA cu := by
  obtain ⟨rfl, rfl, rfl, rfl, rfl, rfl, rfl, rfl, rfl, rfl⟩ := dm_T_idle h
  simp only [dm_T] at h ⊢
  obtain ⟨t1, t2, t3, t4, t5, t6, t7, t8, t9, t10, t11, t12, t13, t14, t15, t16, t17, t18, t19⟩ := h
  have q19 : cu = 1 → DT = 0 := fun z => (t19 z).1
  have q6 : OW = 1 → SH = 0 := fun z => (t6 z).1
  clear t1 t2 t3 t4 t6 t7 t8 t9 t10 t11 t12 t13 t14 t15 t16 t17 t18 t19
  refine ⟨?_, ?_, ?_, ?_, ?_, ?_, ?_, ?_, ?_, ?_, ?_, ?_, ?_, ?_, ?_, ?_, ?_, ?_, ?_⟩ <;> (intros; first | contradiction | trivial | omega | exact ⟨by omega, by trivial⟩)
theorem dm_nT_swD (h : dm_T 0 T2 DN CB FS FM IV AK DA GR GG OW SH DT R kR aR dI dA cu) (ho : OW = 0) (hc : c < 4) :
    dm_T 1 (T2 + 1) DN CB FS FM (IV + x) AK (DA + 1) GR GG OW SH DT c 12 0 2 x cu := by
  obtain ⟨rfl, rfl, rfl, rfl, rfl, rfl, rfl, rfl, rfl, rfl⟩ := dm_T_idle h
  simp only [dm_T] at h ⊢
  obtain ⟨t1, t2, t3, t4, t5, t6, t7, t8, t9, t10, t11, t12, t13, t14, t15, t16, t17, t18, t19⟩ := h
  have q19 : cu = 1 → DT = 0 := fun z => (t19 z).1
  have q6 : OW = 1 → SH = 0 := fun z => (t6 z).1
  clear t1 t2 t3 t4 t6 t7 t8 t9 t10 t11 t12 t13 t14 t15 t16 t17 t18 t19
  refine ⟨?_, ?_, ?_, ?_, ?_, ?_, ?_, ?_, ?_, ?_, ?_, ?_, ?_, ?_, ?_, ?_, ?_, ?_, ?_⟩ <;> (intros; first | contradiction | trivial | omega | exact ⟨by omega, by trivial⟩)
theorem dm_nT_swG (h : dm_T 0 T2 DN CB FS FM IV AK DA GR GG OW SH DT R kR aR dI dA cu) (ho : OW = 0) (hc : c < 4) :
    dm_T 1 (T2 + 1) DN CB FS FM (IV + x) AK DA (GR + 1) GG OW SH DT c 13 0 2 x cu := by
  obtain ⟨rfl, rfl, rfl, rfl, rfl, rfl, rfl, rfl, rfl, rfl⟩ := dm_T_idle h
  simp only [dm_T] at h ⊢
  obtain ⟨t1, t2, t3, t4, t5, t6, t7, t8, t9, t10, t11, t12, t13, t14, t15, t16, t17, t18, t19⟩ := h
  have q19 : cu = 1 → DT = 0 := fun z => (t19 z).1
  have q6 : OW = 1 → SH = 0 := fun z => (t6 z).1
  clear t1 t2 t3 t4 t6 t7 t8 t9 t10 t11 t12 t13 t14 t15 t16 t17 t18 t19
  refine ⟨?_, ?_, ?_, ?_, ?_, ?_, ?_, ?_, ?_, ?_, ?_, ?_, ?_, ?_, ?_, ?_, ?_, ?_, ?_⟩ <;> (intros; first | contradiction | trivial | omega | exact ⟨by omega, by trivial⟩)
theorem dm_nT_sp (h : dm_T 0 T2 DN CB FS FM IV AK DA GR GG OW SH DT R kR aR dI dA cu) (ho : OW' ≤ OW) (hs : SH' ≤ SH) (hd : DT' ≤ DT) :
    dm_T 0 T2 DN CB FS FM IV AK DA GR GG OW' SH' DT' R kR' aR dI dA cu := by
  obtain ⟨rfl, rfl, rfl, rfl, rfl, rfl, rfl, rfl, rfl, rfl⟩ := dm_T_idle h
  simp only [dm_T] at h ⊢
  obtain ⟨t1, t2, t3, t4, t5, t6, t7, t8, t9, t10, t11, t12, t13, t14, t15, t16, t17, t18, t19⟩ := h
  have q19 : cu = 1 → DT = 0 := fun z => (t19 z).1
  have q6 : OW = 1 → SH = 0 := fun z => (t6 z).1
  clear t1 t2 t3 t4 t6 t7 t8 t9 t10 t11 t12 t13 t14 t15 t16 t17 t18 t19
  refine ⟨?_, ?_, ?_, ?_, ?_, ?_, ?_, ?_, ?_, ?_, ?_, ?_, ?_, ?_, ?_, ?_, ?_, ?_, ?_⟩ <;> (intros; first | contradiction | trivial | omega | exact ⟨by omega, by trivial⟩)
theorem dm_nT_done (h : dm_T aw T2 (x + 1) CB FS FM IV AK DA GR GG OW SH DT R kR aR dI dA cu) :
    aw = CB + 1 ∧ T2 = 0 ∧ dm_T (aw - 1) T2 x CB FS FM IV AK DA GR GG OW SH DT R kR aR dI dA cu := by
  simp only [dm_T] at h ⊢
  obtain ⟨t1, t2, t3, t4, t5, t6, t7, t8, t9, t10, t11, t12, t13, t14, t15, t16, t17, t18, t19⟩ := h
  obtain ⟨rfl, rfl, rfl, rfl, rfl, rfl, rfl⟩ : x = 0 ∧ T2 = 0 ∧ FS = 0 ∧ FM = 0 ∧ DA = 0 ∧ GR = 0 ∧ GG = 0 := by clear t6 t7 t8 t9 t10 t11 t12 t13 t14 t15 t16 t17 t18 t19; omega
  have q7 := t7 rfl
  have q19 : cu = 1 → DT = 0 := fun z => (t19 z).1
  clear t4 t7 t8 t9 t10 t11 t12 t13 t14 t15 t16 t17 t18 t19
  refine ⟨by omega, rfl, ?_, ?_, ?_, ?_, ?_, ?_, ?_, ?_, ?_, ?_, ?_, ?_, ?_, ?_, ?_, ?_, ?_, ?_, ?_⟩ <;> (intros; first | contradiction | trivial | omega)
theorem dm_nT_copy (h : dm_T aw T2 DN (x + 1) FS FM IV AK DA GR GG OW SH DT R kR aR dI dA cu) :
    aw = T2 + DN + 1 ∧ dm_T (aw - 1) T2 DN x FS FM IV AK DA GR GG OW SH DT R kR aR dI dA cu := by
  simp only [dm_T] at h ⊢
  obtain ⟨t1, t2, t3, t4, t5, t6, t7, t8, t9, t10, t11, t12, t13, t14, t15, t16, t17, t18, t19⟩ := h
  obtain ⟨rfl, rfl⟩ : x = 0 ∧ FS = 0 := by clear t6 t7 t8 t9 t10 t11 t12 t13 t14 t15 t16 t17 t18 t19; omega
  refine ⟨by omega, by omega, t2, by omega, t4, t5, fun z => ⟨(t6 z).1, by have := (t6 z).2; omega⟩, t7, t8, t9, fun y z => ⟨rfl, rfl⟩, t11, t12, t13, t14, t15, t16, t17, t18, t19⟩
theorem dm_nT_dataC (h : dm_T aw T2 DN CB FS FM IV AK (x + 1) GR GG OW SH DT R kR aR dI dA cu) (hz : (dA : Int) + aR = 0)
    (h1 : dI = 1 → OW' = OW ∧ SH' = SH + 1 ∧ DT' = DT) (h2 : dI = 2 → OW' = OW + 1 ∧ SH' = SH ∧ DT' = DT) (h3 : dI = 3 → OW' = OW + 1 ∧ SH' = SH ∧ DT' = DT + 1) (hS : dI ≠ 1 → SH = 0) :
    dm_T aw (T2 - 1) (DN + 1) CB FS FM IV AK x GR GG OW' SH' DT' R kR' aR' dI dA cu := by
  have hs := dm_T_src h (by omega)
  simp only [dm_T] at h ⊢
  obtain ⟨rfl, rfl, hs⟩ := hs
  obtain ⟨rfl, rfl, rfl, rfl, rfl⟩ : x = 0 ∧ FS = 0 ∧ FM = 0 ∧ GR = 0 ∧ GG = 0 := by omega
  obtain ⟨t1, t2, t3, t4, t5, t6, t7, t8, t9, t10, t11, t12, t13, t14, t15, t16, t17, t18, t19⟩ := h
  have q8 := t8 rfl
  have q16 := t16 rfl
  have q10 := t10 rfl
  have q19 : cu = 1 → DT = 0 := fun z => (t19 z).1
  have q20 : cu = 1 → dI ≠ 3 := fun z => (t19 z).2 rfl
  have q6 : OW = 0 := by have : ¬ OW = 1 := fun z => by have := (t6 z).2; omega
                         omega
  clear t4 t6 t8 t9 t10 t11 t16 t7 t12 t13 t14 t15 t17 t18 t19
  have hI : IV + AK = 0 := by omega
  have hd : dI = 1 ∨ dI = 2 ∨ dI = 3 := by omega
  rcases hd with rfl | rfl | rfl
  · obtain ⟨rfl, rfl, rfl⟩ := h1 rfl
    clear h1 h2 h3 hS q10 q20
    refine ⟨?_, ?_, ?_, ?_, ?_, ?_, ?_, ?_, ?_, ?_, ?_, ?_, ?_, ?_, ?_, ?_, ?_, ?_, ?_⟩ <;> (intros; first | contradiction | trivial | omega)
  · obtain ⟨rfl, rfl, rfl⟩ := h2 rfl
    have q10 := q10 (by decide)
    have hS := hS (by decide)
    clear h1 h2 h3 q20
    refine ⟨?_, ?_, ?_, ?_, ?_, ?_, ?_, ?_, ?_, ?_, ?_, ?_, ?_, ?_, ?_, ?_, ?_, ?_, ?_⟩ <;> (intros; first | contradiction | trivial | omega)
  · obtain ⟨rfl, rfl, rfl⟩ := h3 rfl
    have q10 := q10 (by decide)
    have hS := hS (by decide)
    have q20 : ¬ cu = 1 := fun z => q20 z rfl
    clear h1 h2 h3 q19
    refine ⟨?_, ?_, ?_, ?_, ?_, ?_, ?_, ?_, ?_, ?_, ?_, ?_, ?_, ?_, ?_, ?_, ?_, ?_, ?_⟩ <;> (intros; first | contradiction | trivial | omega)
theorem dm_nT_dataW (h : dm_T aw T2 DN CB FS FM IV AK (x + 1) GR GG OW SH DT R kR aR dI dA cu) (hz : (dA : Int) + aR ≠ 0) :
    dm_T aw T2 DN CB FS FM IV AK x GR (GG + 1) OW SH DT R kR (aR + dA) dI dA cu := by
  have hs := dm_T_src h (by omega)
  simp only [dm_T] at h ⊢
  obtain ⟨rfl, rfl, hs⟩ := hs
  obtain ⟨rfl, rfl, rfl, rfl, rfl⟩ : x = 0 ∧ FS = 0 ∧ FM = 0 ∧ GR = 0 ∧ GG = 0 := by omega
  obtain ⟨t1, t2, t3, t4, t5, t6, t7, t8, t9, t10, t11, t12, t13, t14, t15, t16, t17, t18, t19⟩ := h
  have q8 := t8 rfl
  have q16 := t16 rfl
  have q10 := t10 rfl
  have q9 := t9 rfl
  have q11 := t11 rfl
  have q12 := t12 rfl
  have q19 : cu = 1 → DT = 0 := fun z => (t19 z).1
  have q6 : OW = 0 := by have : ¬ OW = 1 := fun z => by have := (t6 z).2; omega
                         omega
  clear t4 t6 t19 t8 t16 t7 t9 t10 t11 t12 t13 t14 t17 t18
  refine ⟨?_, ?_, ?_, ?_, ?_, ?_, ?_, ?_, ?_, ?_, ?_, ?_, ?_, ?_, ?_, ?_, ?_, ?_, ?_⟩ <;> (intros; first | contradiction | trivial | omega)
theorem dm_nT_granC (h : dm_T aw T2 DN CB FS FM IV AK DA (x + 1) GG OW SH DT R kR aR dI dA cu) (hz : (dA : Int) + aR = 0) (hS : SH' = 0) :
    dm_T aw (T2 - 1) (DN + 1) CB FS FM IV AK DA x GG (OW + 1) SH' DT R kR' aR' dI dA cu := by
  have hs := dm_T_src h (by omega)
  simp only [dm_T] at h ⊢
  obtain ⟨rfl, rfl, hs⟩ := hs
  obtain ⟨rfl, rfl, rfl, rfl, rfl⟩ : x = 0 ∧ FS = 0 ∧ FM = 0 ∧ DA = 0 ∧ GG = 0 := by omega
  obtain ⟨t1, t2, t3, t4, t5, t6, t7, t8, t9, t10, t11, t12, t13, t14, t15, t16, t17, t18, t19⟩ := h
  have q8 := t8 rfl
  have q16 := t16 rfl
  have q10 := t10 rfl
  have q9 := t9 rfl
  have q19 : cu = 1 → DT = 0 := fun z => (t19 z).1
  have q6 : OW = 0 := by have : ¬ OW = 1 := fun z => by have := (t6 z).2; omega
                         omega
  clear t4 t6 t19 t8 t16 t7 t9 t10 t11 t12 t13 t14 t15 t17 t18
  refine ⟨?_, ?_, ?_, ?_, ?_, ?_, ?_, ?_, ?_, ?_, ?_, ?_, ?_, ?_, ?_, ?_, ?_, ?_, ?_⟩ <;> (intros; first | contradiction | trivial | omega)
theorem dm_nT_granW (h : dm_T aw T2 DN CB FS FM IV AK DA (x + 1) GG OW SH DT R kR aR dI dA cu) (hz : (dA : Int) + aR ≠ 0) :
    dm_T aw T2 DN CB FS FM IV AK DA x (GG + 1) OW SH DT R kR (aR + dA) dI dA cu := by
  have hs := dm_T_src h (by omega)
  simp only [dm_T] at h ⊢
  obtain ⟨rfl, rfl, hs⟩ := hs
  obtain ⟨rfl, rfl, rfl, rfl, rfl⟩ : x = 0 ∧ FS = 0 ∧ FM = 0 ∧ DA = 0 ∧ GG = 0 := by omega
  obtain ⟨t1, t2, t3, t4, t5, t6, t7, t8, t9, t10, t11, t12, t13, t14, t15, t16, t17, t18, t19⟩ := h
  have q8 := t8 rfl
  have q16 := t16 rfl
  have q10 := t10 rfl
  have q9 := t9 rfl
  have q11 := t11 rfl
  have q19 : cu = 1 → DT = 0 := fun z => (t19 z).1
  have q6 : OW = 0 := by have : ¬ OW = 1 := fun z => by have := (t6 z).2; omega
                         omega
  clear t4 t6 t19 t8 t16 t7 t9 t10 t11 t12 t13 t15 t17 t18
  refine ⟨?_, ?_, ?_, ?_, ?_, ?_, ?_, ?_, ?_, ?_, ?_, ?_, ?_, ?_, ?_, ?_, ?_, ?_, ?_⟩ <;> (intros; first | contradiction | trivial | omega)
theorem dm_nT_ackW (h : dm_T aw T2 DN CB FS FM IV (x + 1) DA GR GG OW SH DT R kR aR dI dA cu) (hz : GG = 0 ∨ aR ≠ 1) :
    dm_T aw T2 DN CB FS FM IV x DA GR GG OW SH DT R kR (aR - 1) dI dA cu := by
  simp only [dm_T] at h ⊢
  obtain ⟨t1, t2, t3, t4, t5, t6, t7, t8, t9, t10, t11, t12, t13, t14, t15, t16, t17, t18, t19⟩ := h
  obtain rfl : T2 = 1 := by
    have : ¬ T2 = 0 := fun z => by have := t7 z; omega
    omega
  have q8 := t8 rfl
  have q10 := t10 rfl
  have q9 := t9 rfl
  have q11 := t11 rfl
  have q12 := t12 rfl (by omega)
  obtain rfl : DN = 0 := by omega
  obtain rfl : FS = 0 := by
    have : ¬ FS + FM = 1 := fun z => by have := t18 z; omega
    omega
  obtain rfl : FM = 0 := by
    have : ¬ 0 + FM = 1 := fun z => by have := t18 z; omega
    omega
  clear t7 t8 t9 t10 t11 t12 t13
  refine ⟨by omega, by omega, by omega, by omega, by omega, by omega, by omega, by omega, by omega, by omega, by omega, by omega, by omega, t14, t15, fun z => ?_, fun z => ?_, by omega, t19⟩
  · have := t16 z; omega
  · have := t17 z; omega
theorem dm_nT_ackC (h : dm_T aw T2 DN CB FS FM IV (x + 1) DA GR (y + 1) OW SH DT R kR 1 dI dA cu) (hS : SH' = 0) :
    dm_T aw (T2 - 1) (DN + 1) CB FS FM IV x DA GR y (OW + 1) SH' DT R kR' aR' dI dA cu := by
  have hs := dm_T_src h (by omega)
  simp only [dm_T] at h ⊢
  obtain ⟨rfl, rfl, hs⟩ := hs
  obtain ⟨rfl, rfl, rfl, rfl, rfl⟩ : y = 0 ∧ FS = 0 ∧ FM = 0 ∧ DA = 0 ∧ GR = 0 := by omega
  obtain ⟨t1, t2, t3, t4, t5, t6, t7, t8, t9, t10, t11, t12, t13, t14, t15, t16, t17, t18, t19⟩ := h
  have q8 := t8 rfl
  have q17 := t17 rfl
  have q10 := t10 rfl
  have q9 := t9 rfl
  have q19 : cu = 1 → DT = 0 := fun z => (t19 z).1
  have q6 : OW = 0 := by have : ¬ OW = 1 := fun z => by have := (t6 z).2; omega
                         omega
  clear t4 t6 t19 t8 t16 t7 t9 t10 t11 t12 t13 t14 t15 t17 t18
  refine ⟨?_, ?_, ?_, ?_, ?_, ?_, ?_, ?_, ?_, ?_, ?_, ?_, ?_, ?_, ?_, ?_, ?_, ?_, ?_⟩ <;> (intros; first | contradiction | trivial | omega)
theorem dm_nT_inv (h : dm_T aw T2 DN CB FS FM (x + 1) AK DA GR GG OW SH DT R kR aR dI dA cu) (hS : SH' ≤ SH) :
    dm_T aw T2 DN CB FS FM x (AK + 1) DA GR GG OW SH' DT R kR aR dI dA cu := by
  simp only [dm_T] at h ⊢
  obtain ⟨t1, t2, t3, t4, t5, t6, t7, t8, t9, t10, t11, t12, t13, t14, t15, t16, t17, t18, t19⟩ := h
  have e : x + (AK + 1) = x + 1 + AK := by omega
  rw [e]
  exact ⟨t1, t2, t3, t4, t5, fun z => ⟨by have := (t6 z).1; omega, (t6 z).2⟩, t7, t8, t9, t10, t11, t12, t13, t14, t15, t16, t17, t18, t19⟩
theorem dm_nT_fwds (h : dm_T aw T2 DN CB (x + 1) FM IV AK DA GR GG OW SH DT R kR aR dI dA cu) (hO : OW = OW' + 1) (hD : DT' ≤ DT) :
    dI = 1 ∧ dm_T aw T2 DN (CB + 1) x FM IV AK (DA + 1) GR GG OW' SH' DT' R kR aR dI 0 cu := by
  have hs := dm_T_src h (by omega)
  simp only [dm_T] at h ⊢
  obtain ⟨rfl, rfl, hs⟩ := hs
  obtain ⟨rfl, rfl, rfl, rfl, rfl⟩ : x = 0 ∧ GR = 0 ∧ FM = 0 ∧ DA = 0 ∧ GG = 0 := by omega
  obtain ⟨t1, t2, t3, t4, t5, t6, t7, t8, t9, t10, t11, t12, t13, t14, t15, t16, t17, t18, t19⟩ := h
  have q8 := t8 rfl
  have q18 := t18 rfl
  have q10 := t10 rfl
  have hd1 : dI = 1 := by omega
  have q9 := t9 rfl hd1
  have q19 : cu = 1 → DT = 0 := fun z => (t19 z).1
  clear t8 t16 t7 t9 t10 t11 t12 t13 t14 t15 t17 t18 t19 t4
  refine ⟨hd1, ?_, ?_, ?_, ?_, ?_, ?_, ?_, ?_, ?_, ?_, ?_, ?_, ?_, ?_, ?_, ?_, ?_, ?_, ?_⟩ <;> (intros; first | contradiction | trivial | omega)
theorem dm_nT_fwdm (h : dm_T aw T2 DN CB FS (x + 1) IV AK DA GR GG OW SH DT R kR aR dI dA cu) (hO : OW = OW' + 1) (hD : DT' ≤ DT) (hd : dI' = 2 ∨ (dI' = 3 ∧ 1 ≤ DT)) :
    dI ≠ 1 ∧ dm_T aw T2 DN CB FS x IV AK (DA + 1) GR GG OW' SH' DT' R kR aR dI' 0 cu := by
  have hs := dm_T_src h (by omega)
  simp only [dm_T] at h ⊢
  obtain ⟨rfl, rfl, hs⟩ := hs
  obtain ⟨rfl, rfl, rfl, rfl, rfl⟩ : x = 0 ∧ GR = 0 ∧ FS = 0 ∧ DA = 0 ∧ GG = 0 := by omega
  obtain ⟨t1, t2, t3, t4, t5, t6, t7, t8, t9, t10, t11, t12, t13, t14, t15, t16, t17, t18, t19⟩ := h
  have q8 := t8 rfl
  have q18 := t18 rfl
  have q13 := t13 rfl
  have hd1 : dI ≠ 1 := fun z => by have := t9 rfl z; omega
  have q10 := t10 rfl hd1
  have q19 : cu = 1 → DT = 0 := fun z => (t19 z).1
  clear t8 t16 t7 t9 t10 t11 t12 t13 t14 t15 t17 t18 t19 t4
  refine ⟨hd1, ?_, ?_, ?_, ?_, ?_, ?_, ?_, ?_, ?_, ?_, ?_, ?_, ?_, ?_, ?_, ?_, ?_, ?_, ?_⟩ <;> (intros; first | contradiction | trivial | omega)
theorem dm_nT_kR (h : dm_T aw T2 DN CB FS FM IV AK DA GR GG OW SH DT R kR aR dI dA cu) (h0 : T2 = 0) :
    dm_T aw T2 DN CB FS FM IV AK DA GR GG OW SH DT R kR' aR' dI dA cu := by
  simp only [dm_T] at h ⊢
  obtain ⟨t1, t2, t3, t4, t5, t6, t7, t8, t9, t10, t11, t12, t13, t14, t15, t16, t17, t18, t19⟩ := h
  subst h0
  obtain ⟨rfl, rfl, rfl, rfl, rfl⟩ : FS = 0 ∧ GR = 0 ∧ FM = 0 ∧ DA = 0 ∧ GG = 0 := by clear t6 t7 t8 t9 t10 t11 t12 t13 t14 t15 t16 t17 t18 t19; omega
  exact ⟨t1, t2, t3, t4, t5, t6, t7, fun z => absurd z (by decide), fun z => absurd z (by decide), fun z => absurd z (by decide), fun z => absurd z (by decide), fun z => absurd z (by decide), fun z => absurd z (by decide), fun z => absurd z (by decide), fun z => absurd z (by decide), fun z => absurd z (by decide), fun z => absurd z (by decide), fun z => absurd z (by decide), t19⟩
end
end
section
theorem dm_tab0 : dm_w0 0 = 0 ∧ dm_w1 0 = 0 ∧ dm_w2 0 = 0 ∧ dm_w3 0 = 0 ∧ dm_t2 0 = 0 ∧ dm_ow 0 = 0 ∧ dm_sh 0 = 0 ∧ dm_dt 0 = 0 ∧ dm_ro 0 = 0 := by decide
theorem dm_tab1 : dm_w0 1 = 0 ∧ dm_w1 1 = 0 ∧ dm_w2 1 = 0 ∧ dm_w3 1 = 0 ∧ dm_t2 1 = 0 ∧ dm_ow 1 = 0 ∧ dm_sh 1 = 1 ∧ dm_dt 1 = 0 ∧ dm_ro 1 = 1 := by decide
theorem dm_tab2 : dm_w0 2 = 0 ∧ dm_w1 2 = 0 ∧ dm_w2 2 = 0 ∧ dm_w3 2 = 0 ∧ dm_t2 2 = 0 ∧ dm_ow 2 = 1 ∧ dm_sh 2 = 0 ∧ dm_dt 2 = 0 ∧ dm_ro 2 = 2 := by decide
theorem dm_tab3 : dm_w0 3 = 0 ∧ dm_w1 3 = 0 ∧ dm_w2 3 = 0 ∧ dm_w3 3 = 0 ∧ dm_t2 3 = 0 ∧ dm_ow 3 = 1 ∧ dm_sh 3 = 0 ∧ dm_dt 3 = 1 ∧ dm_ro 3 = 2 := by decide
theorem dm_tab4 : dm_w0 4 = 1 ∧ dm_w1 4 = 0 ∧ dm_w2 4 = 0 ∧ dm_w3 4 = 0 ∧ dm_t2 4 = 0 ∧ dm_ow 4 = 0 ∧ dm_sh 4 = 0 ∧ dm_dt 4 = 0 ∧ dm_ro 4 = 0 := by decide
theorem dm_tab5 : dm_w0 5 = 0 ∧ dm_w1 5 = 1 ∧ dm_w2 5 = 0 ∧ dm_w3 5 = 0 ∧ dm_t2 5 = 0 ∧ dm_ow 5 = 0 ∧ dm_sh 5 = 0 ∧ dm_dt 5 = 0 ∧ dm_ro 5 = 0 := by decide
theorem dm_tab6 : dm_w0 6 = 0 ∧ dm_w1 6 = 1 ∧ dm_w2 6 = 0 ∧ dm_w3 6 = 0 ∧ dm_t2 6 = 0 ∧ dm_ow 6 = 0 ∧ dm_sh 6 = 1 ∧ dm_dt 6 = 0 ∧ dm_ro 6 = 1 := by decide
theorem dm_tab7 : dm_w0 7 = 0 ∧ dm_w1 7 = 0 ∧ dm_w2 7 = 1 ∧ dm_w3 7 = 0 ∧ dm_t2 7 = 0 ∧ dm_ow 7 = 0 ∧ dm_sh 7 = 1 ∧ dm_dt 7 = 0 ∧ dm_ro 7 = 1 := by decide
theorem dm_tab8 : dm_w0 8 = 0 ∧ dm_w1 8 = 0 ∧ dm_w2 8 = 1 ∧ dm_w3 8 = 0 ∧ dm_t2 8 = 0 ∧ dm_ow 8 = 1 ∧ dm_sh 8 = 0 ∧ dm_dt 8 = 0 ∧ dm_ro 8 = 2 := by decide
theorem dm_tab9 : dm_w0 9 = 0 ∧ dm_w1 9 = 0 ∧ dm_w2 9 = 1 ∧ dm_w3 9 = 0 ∧ dm_t2 9 = 0 ∧ dm_ow 9 = 1 ∧ dm_sh 9 = 0 ∧ dm_dt 9 = 1 ∧ dm_ro 9 = 2 := by decide
theorem dm_tab10 : dm_w0 10 = 0 ∧ dm_w1 10 = 0 ∧ dm_w2 10 = 1 ∧ dm_w3 10 = 0 ∧ dm_t2 10 = 0 ∧ dm_ow 10 = 0 ∧ dm_sh 10 = 0 ∧ dm_dt 10 = 0 ∧ dm_ro 10 = 0 := by decide
theorem dm_tab11 : dm_w0 11 = 0 ∧ dm_w1 11 = 0 ∧ dm_w2 11 = 0 ∧ dm_w3 11 = 0 ∧ dm_t2 11 = 1 ∧ dm_ow 11 = 0 ∧ dm_sh 11 = 0 ∧ dm_dt 11 = 0 ∧ dm_ro 11 = 0 := by decide
theorem dm_tab12 : dm_w0 12 = 0 ∧ dm_w1 12 = 0 ∧ dm_w2 12 = 0 ∧ dm_w3 12 = 0 ∧ dm_t2 12 = 1 ∧ dm_ow 12 = 0 ∧ dm_sh 12 = 0 ∧ dm_dt 12 = 0 ∧ dm_ro 12 = 0 := by decide
theorem dm_tab13 : dm_w0 13 = 0 ∧ dm_w1 13 = 0 ∧ dm_w2 13 = 0 ∧ dm_w3 13 = 0 ∧ dm_t2 13 = 1 ∧ dm_ow 13 = 0 ∧ dm_sh 13 = 1 ∧ dm_dt 13 = 0 ∧ dm_ro 13 = 1 := by decide
theorem dm_tab14 : dm_w0 14 = 0 ∧ dm_w1 14 = 0 ∧ dm_w2 14 = 0 ∧ dm_w3 14 = 1 ∧ dm_t2 14 = 0 ∧ dm_ow 14 = 0 ∧ dm_sh 14 = 0 ∧ dm_dt 14 = 0 ∧ dm_ro 14 = 0 := by decide
theorem dm_tab15 : dm_w0 15 = 0 ∧ dm_w1 15 = 0 ∧ dm_w2 15 = 0 ∧ dm_w3 15 = 1 ∧ dm_t2 15 = 0 ∧ dm_ow 15 = 0 ∧ dm_sh 15 = 0 ∧ dm_dt 15 = 0 ∧ dm_ro 15 = 0 := by decide
theorem dm_tab16 : dm_w0 16 = 0 ∧ dm_w1 16 = 0 ∧ dm_w2 16 = 0 ∧ dm_w3 16 = 1 ∧ dm_t2 16 = 0 ∧ dm_ow 16 = 0 ∧ dm_sh 16 = 0 ∧ dm_dt 16 = 0 ∧ dm_ro 16 = 0 := by decide
theorem dm_tab17 : dm_w0 17 = 0 ∧ dm_w1 17 = 0 ∧ dm_w2 17 = 0 ∧ dm_w3 17 = 1 ∧ dm_t2 17 = 0 ∧ dm_ow 17 = 0 ∧ dm_sh 17 = 0 ∧ dm_dt 17 = 0 ∧ dm_ro 17 = 0 := by decide
theorem dm_w0_k {x : Nat} (h : 1 ≤ dm_w0 x) : x = 4 := by simp only [dm_w0] at h; split at h <;> omega
theorem dm_w1_k {x : Nat} (h : 1 ≤ dm_w1 x) : x = 5 ∨ x = 6 := by simp only [dm_w1] at h; split at h <;> omega
theorem dm_w2_k {x : Nat} (h : 1 ≤ dm_w2 x) : x = 7 ∨ x = 8 ∨ x = 9 ∨ x = 10 := by simp only [dm_w2] at h; split at h <;> omega
theorem dm_w3_k {x : Nat} (h : 1 ≤ dm_w3 x) (h2 : x ≤ 17) : x = 14 ∨ x = 15 ∨ x = 16 ∨ x = 17 := by simp only [dm_w3] at h; split at h <;> omega
theorem dm_t2_k {x : Nat} (h : 1 ≤ dm_t2 x) : x = 11 ∨ x = 12 ∨ x = 13 := by simp only [dm_t2] at h; split at h <;> omega
theorem dm_ow_k {x : Nat} (h : 1 ≤ dm_ow x) : x = 2 ∨ x = 3 ∨ x = 8 ∨ x = 9 := by simp only [dm_ow] at h; split at h <;> omega
theorem dm_sh_k {x : Nat} (h : 1 ≤ dm_sh x) : x = 1 ∨ x = 6 ∨ x = 7 ∨ x = 13 := by simp only [dm_sh] at h; split at h <;> omega
theorem dm_nx0 {dI R c k : Nat} : dm_nx 0 dI R c k = dm_ro k := rfl
theorem dm_nx1 {R c k : Nat} : dm_nx 1 1 R c k = if c = R then 1 else if dm_ro k = 0 then 0 else 1 := rfl
theorem dm_nx2 {dI R c k : Nat} (h : dI ≠ 1) : dm_nx 1 dI R c k = if c = R then 2 else 0 := by rw [dm_nx, if_neg (by decide), if_neg h]
theorem dm_B_ro {aw T2 FM dI R c k k' d nd n7 : Nat} (e : dm_ro k' = dm_ro k) (h : dm_B aw T2 FM dI R c k d nd n7) : dm_B aw T2 FM dI R c k' d nd n7 := by
  simp only [dm_B, dm_nx, e] at h ⊢; exact h
end
section
section
variable {k gr d nd : Nat → Nat} {ac : Nat → Int} {aw : Nat} {n nq : Nat → Nat → Nat} {R dI dA cu c o : Nat}
theorem dm_t_enq0 (h : dm_L0 k gr ac d nd aw n nq R dI dA cu) (hc : c < 4) (hn : 1 ≤ n 0 c) :
    dm_L0 k gr ac d nd aw (dm_d n 0 c) (dm_i nq 0 c) R dI dA cu := by
  obtain ⟨hA, hT, hB⟩ := h
  have a_c := hA c hc
  have b_c := hB c hc
  have hT0 := hT
  simp only [dm_LT] at hT
  have e1 := dm_ds (n := n) (t := 0) hc hn
  try simp (disch := decide) only [dm_in, dm_dn] at e1
  refine ⟨fun e he => ?_, ?_, fun e he => ?_⟩
  · by_cases hec : e = c
    · rw [hec]
      obtain ⟨x1, x2, x3, x4, x5, x6, x7, x8, x9, x10, x11, x12⟩ := a_c
      simp only [dm_A, dm_iv, dm_dv, dm_fs, and_self, and_true, true_and, if_true, reduceIte, Nat.reduceEqDiff, false_and, and_false, if_false, Nat.add_zero, Nat.sub_zero]
      refine ⟨?_, ?_, ?_, ?_, ?_, ?_, ?_, ?_, ?_, ?_, ?_, ?_⟩ <;> (intros; first | trivial | omega)
    · have a := hA e he
      simpa only [dm_fn hec, dm_iv, dm_dv, hec, and_false, if_false, Nat.add_zero, Nat.sub_zero] using a
  · simp (disch := decide) only [dm_LT, dm_in, dm_dn]
    exact hT
  · try simp (disch := decide) only [dm_in, dm_dn]
    by_cases hec : e = c
    · exact hB e he
    · exact hB e he
theorem dm_p_enq0 (h : dm_L0 k gr ac d nd aw n nq R dI dA cu) (hc : c < 4) (hn : 1 ≤ n 0 c) : dm_phi (dm_d n 0 c) (dm_i nq 0 c) gr + 1 ≤ dm_phi n nq gr + 0 := by
  have e1 := dm_ds (n := n) (t := 0) hc hn
  have e2 := dm_is (n := nq) (t := 0) hc
  try simp (disch := decide) only [dm_in, dm_dn] at e1 e2
  simp (disch := decide) only [dm_phi, dm_in, dm_dn]
  omega
theorem dm_t_enq1 (h : dm_L0 k gr ac d nd aw n nq R dI dA cu) (hc : c < 4) (hn : 1 ≤ n 1 c) :
    dm_L0 k gr ac d nd aw (dm_d n 1 c) (dm_i nq 1 c) R dI dA cu := by
  obtain ⟨hA, hT, hB⟩ := h
  have a_c := hA c hc
  have b_c := hB c hc
  have hT0 := hT
  simp only [dm_LT] at hT
  have e1 := dm_ds (n := n) (t := 1) hc hn
  try simp (disch := decide) only [dm_in, dm_dn] at e1
  refine ⟨fun e he => ?_, ?_, fun e he => ?_⟩
  · by_cases hec : e = c
    · rw [hec]
      obtain ⟨x1, x2, x3, x4, x5, x6, x7, x8, x9, x10, x11, x12⟩ := a_c
      simp only [dm_A, dm_iv, dm_dv, dm_fs, and_self, and_true, true_and, if_true, reduceIte, Nat.reduceEqDiff, false_and, and_false, if_false, Nat.add_zero, Nat.sub_zero]
      refine ⟨?_, ?_, ?_, ?_, ?_, ?_, ?_, ?_, ?_, ?_, ?_, ?_⟩ <;> (intros; first | trivial | omega)
    · have a := hA e he
      simpa only [dm_fn hec, dm_iv, dm_dv, hec, and_false, if_false, Nat.add_zero, Nat.sub_zero] using a
  · simp (disch := decide) only [dm_LT, dm_in, dm_dn]
    exact hT
  · try simp (disch := decide) only [dm_in, dm_dn]
    by_cases hec : e = c
    · exact hB e he
    · exact hB e he
theorem dm_p_enq1 (h : dm_L0 k gr ac d nd aw n nq R dI dA cu) (hc : c < 4) (hn : 1 ≤ n 1 c) : dm_phi (dm_d n 1 c) (dm_i nq 1 c) gr + 1 ≤ dm_phi n nq gr + 0 := by
  have e1 := dm_ds (n := n) (t := 1) hc hn
  have e2 := dm_is (n := nq) (t := 1) hc
  try simp (disch := decide) only [dm_in, dm_dn] at e1 e2
  simp (disch := decide) only [dm_phi, dm_in, dm_dn]
  omega
theorem dm_t_enq2 (h : dm_L0 k gr ac d nd aw n nq R dI dA cu) (hc : c < 4) (hn : 1 ≤ n 2 c) :
    dm_L0 k gr ac d nd aw (dm_d n 2 c) (dm_i nq 2 c) R dI dA cu := by
  obtain ⟨hA, hT, hB⟩ := h
  have a_c := hA c hc
  have b_c := hB c hc
  have hT0 := hT
  simp only [dm_LT] at hT
  have e1 := dm_ds (n := n) (t := 2) hc hn
  try simp (disch := decide) only [dm_in, dm_dn] at e1
  refine ⟨fun e he => ?_, ?_, fun e he => ?_⟩
  · by_cases hec : e = c
    · rw [hec]
      obtain ⟨x1, x2, x3, x4, x5, x6, x7, x8, x9, x10, x11, x12⟩ := a_c
      simp only [dm_A, dm_iv, dm_dv, dm_fs, and_self, and_true, true_and, if_true, reduceIte, Nat.reduceEqDiff, false_and, and_false, if_false, Nat.add_zero, Nat.sub_zero]
      refine ⟨?_, ?_, ?_, ?_, ?_, ?_, ?_, ?_, ?_, ?_, ?_, ?_⟩ <;> (intros; first | trivial | omega)
    · have a := hA e he
      simpa only [dm_fn hec, dm_iv, dm_dv, hec, and_false, if_false, Nat.add_zero, Nat.sub_zero] using a
  · simp (disch := decide) only [dm_LT, dm_in, dm_dn]
    exact hT
  · try simp (disch := decide) only [dm_in, dm_dn]
    by_cases hec : e = c
    · exact hB e he
    · exact hB e he
theorem dm_p_enq2 (h : dm_L0 k gr ac d nd aw n nq R dI dA cu) (hc : c < 4) (hn : 1 ≤ n 2 c) : dm_phi (dm_d n 2 c) (dm_i nq 2 c) gr + 1 ≤ dm_phi n nq gr + 0 := by
  have e1 := dm_ds (n := n) (t := 2) hc hn
  have e2 := dm_is (n := nq) (t := 2) hc
  try simp (disch := decide) only [dm_in, dm_dn] at e1 e2
  simp (disch := decide) only [dm_phi, dm_in, dm_dn]
  omega
theorem dm_t_pack (h : dm_L0 k gr ac d nd aw n nq R dI dA cu) (hc : c < 4) (hn : 1 ≤ n 11 c) :
    dm_L0 (dm_fu k c 0) gr ac d nd aw (dm_d n 11 c) nq R dI dA cu := by
  obtain ⟨hA, hT, hB⟩ := h
  have a_c := hA c hc
  have b_c := hB c hc
  have hT0 := hT
  simp only [dm_LT] at hT
  have hk := dm_w3_k (x := k c) (by have := a_c.2.2.2.2.1; omega) a_c.1
  rcases hk with hk | hk | hk | hk
  · skip
    have e_t2 := dm_s4_g dm_t2 (f := k) (v := 0) hc
    have e_ow := dm_s4_g dm_ow (f := k) (v := 0) hc
    have e_sh := dm_s4_g dm_sh (f := k) (v := 0) hc
    have e_dt := dm_s4_g dm_dt (f := k) (v := 0) hc
    have q0 := dm_tab14
    simp only [hk] at a_c b_c e_t2 e_ow e_sh e_dt
    have q1 := dm_tab0
    have E_t2 : dm_s4 (fun x => dm_t2 (dm_fu k c 0 x)) = dm_s4 (fun x => dm_t2 (k x)) := by omega
    have E_ow : dm_s4 (fun x => dm_ow (dm_fu k c 0 x)) = dm_s4 (fun x => dm_ow (k x)) := by omega
    have E_sh : dm_s4 (fun x => dm_sh (dm_fu k c 0 x)) = dm_s4 (fun x => dm_sh (k x)) := by omega
    have E_dt : dm_s4 (fun x => dm_dt (dm_fu k c 0 x)) = dm_s4 (fun x => dm_dt (k x)) := by omega
    have e1 := dm_ds (n := n) (t := 11) hc hn
    try simp (disch := decide) only [dm_in, dm_dn] at e1
    refine ⟨fun e he => ?_, ?_, fun e he => ?_⟩
    · by_cases hec : e = c
      · rw [hec]
        obtain ⟨x1, x2, x3, x4, x5, x6, x7, x8, x9, x10, x11, x12⟩ := a_c
        simp only [dm_A, dm_iv, dm_dv, dm_fs, and_self, and_true, true_and, if_true, reduceIte, Nat.reduceEqDiff, false_and, and_false, if_false, Nat.add_zero, Nat.sub_zero, hk]
        refine ⟨?_, ?_, ?_, ?_, ?_, ?_, ?_, ?_, ?_, ?_, ?_, ?_⟩ <;> (intros; first | trivial | omega)
      · have a := hA e he
        simpa only [dm_fn hec, dm_iv, dm_dv, hec, and_false, if_false, Nat.add_zero, Nat.sub_zero] using a
    · simp (disch := decide) only [dm_LT, dm_in, dm_dn]
      rw [E_t2, E_ow, E_sh, E_dt]
      by_cases hRc : R = c
      · have hz : dm_s4 (fun x => dm_t2 (k x)) = 0 := by
          apply Classical.byContradiction
          intro z
          have h1 : dm_s4 (fun x => dm_t2 (k x)) = 1 := by have := hT.2.1; omega
          have h2 := hT.2.2.2.2.2.2.2.1 h1
          rw [hRc, hk] at h2
          omega
        exact dm_nT_kR hT hz
      · rw [dm_fn hRc]; exact hT
    · try simp (disch := decide) only [dm_in, dm_dn]
      by_cases hec : e = c
      · rw [hec, dm_fs, E_t2]
        exact dm_B_ro (by omega) b_c
      · rw [dm_fn hec, E_t2]
        exact hB e he
  · skip
    have e_t2 := dm_s4_g dm_t2 (f := k) (v := 0) hc
    have e_ow := dm_s4_g dm_ow (f := k) (v := 0) hc
    have e_sh := dm_s4_g dm_sh (f := k) (v := 0) hc
    have e_dt := dm_s4_g dm_dt (f := k) (v := 0) hc
    have q0 := dm_tab15
    simp only [hk] at a_c b_c e_t2 e_ow e_sh e_dt
    have q1 := dm_tab0
    have E_t2 : dm_s4 (fun x => dm_t2 (dm_fu k c 0 x)) = dm_s4 (fun x => dm_t2 (k x)) := by omega
    have E_ow : dm_s4 (fun x => dm_ow (dm_fu k c 0 x)) = dm_s4 (fun x => dm_ow (k x)) := by omega
    have E_sh : dm_s4 (fun x => dm_sh (dm_fu k c 0 x)) = dm_s4 (fun x => dm_sh (k x)) := by omega
    have E_dt : dm_s4 (fun x => dm_dt (dm_fu k c 0 x)) = dm_s4 (fun x => dm_dt (k x)) := by omega
    have e1 := dm_ds (n := n) (t := 11) hc hn
    try simp (disch := decide) only [dm_in, dm_dn] at e1
    refine ⟨fun e he => ?_, ?_, fun e he => ?_⟩
    · by_cases hec : e = c
      · rw [hec]
        obtain ⟨x1, x2, x3, x4, x5, x6, x7, x8, x9, x10, x11, x12⟩ := a_c
        simp only [dm_A, dm_iv, dm_dv, dm_fs, and_self, and_true, true_and, if_true, reduceIte, Nat.reduceEqDiff, false_and, and_false, if_false, Nat.add_zero, Nat.sub_zero, hk]
        refine ⟨?_, ?_, ?_, ?_, ?_, ?_, ?_, ?_, ?_, ?_, ?_, ?_⟩ <;> (intros; first | trivial | omega)
      · have a := hA e he
        simpa only [dm_fn hec, dm_iv, dm_dv, hec, and_false, if_false, Nat.add_zero, Nat.sub_zero] using a
    · simp (disch := decide) only [dm_LT, dm_in, dm_dn]
      rw [E_t2, E_ow, E_sh, E_dt]
      by_cases hRc : R = c
      · have hz : dm_s4 (fun x => dm_t2 (k x)) = 0 := by
          apply Classical.byContradiction
          intro z
          have h1 : dm_s4 (fun x => dm_t2 (k x)) = 1 := by have := hT.2.1; omega
          have h2 := hT.2.2.2.2.2.2.2.1 h1
          rw [hRc, hk] at h2
          omega
        exact dm_nT_kR hT hz
      · rw [dm_fn hRc]; exact hT
    · try simp (disch := decide) only [dm_in, dm_dn]
      by_cases hec : e = c
      · rw [hec, dm_fs, E_t2]
        exact dm_B_ro (by omega) b_c
      · rw [dm_fn hec, E_t2]
        exact hB e he
  · skip
    have e_t2 := dm_s4_g dm_t2 (f := k) (v := 0) hc
    have e_ow := dm_s4_g dm_ow (f := k) (v := 0) hc
    have e_sh := dm_s4_g dm_sh (f := k) (v := 0) hc
    have e_dt := dm_s4_g dm_dt (f := k) (v := 0) hc
    have q0 := dm_tab16
    simp only [hk] at a_c b_c e_t2 e_ow e_sh e_dt
    have q1 := dm_tab0
    have E_t2 : dm_s4 (fun x => dm_t2 (dm_fu k c 0 x)) = dm_s4 (fun x => dm_t2 (k x)) := by omega
    have E_ow : dm_s4 (fun x => dm_ow (dm_fu k c 0 x)) = dm_s4 (fun x => dm_ow (k x)) := by omega
    have E_sh : dm_s4 (fun x => dm_sh (dm_fu k c 0 x)) = dm_s4 (fun x => dm_sh (k x)) := by omega
    have E_dt : dm_s4 (fun x => dm_dt (dm_fu k c 0 x)) = dm_s4 (fun x => dm_dt (k x)) := by omega
    have e1 := dm_ds (n := n) (t := 11) hc hn
    try simp (disch := decide) only [dm_in, dm_dn] at e1
    refine ⟨fun e he => ?_, ?_, fun e he => ?_⟩
    · by_cases hec : e = c
      · rw [hec]
        obtain ⟨x1, x2, x3, x4, x5, x6, x7, x8, x9, x10, x11, x12⟩ := a_c
        simp only [dm_A, dm_iv, dm_dv, dm_fs, and_self, and_true, true_and, if_true, reduceIte, Nat.reduceEqDiff, false_and, and_false, if_false, Nat.add_zero, Nat.sub_zero, hk]
        refine ⟨?_, ?_, ?_, ?_, ?_, ?_, ?_, ?_, ?_, ?_, ?_, ?_⟩ <;> (intros; first | trivial | omega)
      · have a := hA e he
        simpa only [dm_fn hec, dm_iv, dm_dv, hec, and_false, if_false, Nat.add_zero, Nat.sub_zero] using a
    · simp (disch := decide) only [dm_LT, dm_in, dm_dn]
      rw [E_t2, E_ow, E_sh, E_dt]
      by_cases hRc : R = c
      · have hz : dm_s4 (fun x => dm_t2 (k x)) = 0 := by
          apply Classical.byContradiction
          intro z
          have h1 : dm_s4 (fun x => dm_t2 (k x)) = 1 := by have := hT.2.1; omega
          have h2 := hT.2.2.2.2.2.2.2.1 h1
          rw [hRc, hk] at h2
          omega
        exact dm_nT_kR hT hz
      · rw [dm_fn hRc]; exact hT
    · try simp (disch := decide) only [dm_in, dm_dn]
      by_cases hec : e = c
      · rw [hec, dm_fs, E_t2]
        exact dm_B_ro (by omega) b_c
      · rw [dm_fn hec, E_t2]
        exact hB e he
  · skip
    have e_t2 := dm_s4_g dm_t2 (f := k) (v := 0) hc
    have e_ow := dm_s4_g dm_ow (f := k) (v := 0) hc
    have e_sh := dm_s4_g dm_sh (f := k) (v := 0) hc
    have e_dt := dm_s4_g dm_dt (f := k) (v := 0) hc
    have q0 := dm_tab17
    simp only [hk] at a_c b_c e_t2 e_ow e_sh e_dt
    have q1 := dm_tab0
    have E_t2 : dm_s4 (fun x => dm_t2 (dm_fu k c 0 x)) = dm_s4 (fun x => dm_t2 (k x)) := by omega
    have E_ow : dm_s4 (fun x => dm_ow (dm_fu k c 0 x)) = dm_s4 (fun x => dm_ow (k x)) := by omega
    have E_sh : dm_s4 (fun x => dm_sh (dm_fu k c 0 x)) = dm_s4 (fun x => dm_sh (k x)) := by omega
    have E_dt : dm_s4 (fun x => dm_dt (dm_fu k c 0 x)) = dm_s4 (fun x => dm_dt (k x)) := by omega
    have e1 := dm_ds (n := n) (t := 11) hc hn
    try simp (disch := decide) only [dm_in, dm_dn] at e1
    refine ⟨fun e he => ?_, ?_, fun e he => ?_⟩
    · by_cases hec : e = c
      · rw [hec]
        obtain ⟨x1, x2, x3, x4, x5, x6, x7, x8, x9, x10, x11, x12⟩ := a_c
        simp only [dm_A, dm_iv, dm_dv, dm_fs, and_self, and_true, true_and, if_true, reduceIte, Nat.reduceEqDiff, false_and, and_false, if_false, Nat.add_zero, Nat.sub_zero, hk]
        refine ⟨?_, ?_, ?_, ?_, ?_, ?_, ?_, ?_, ?_, ?_, ?_, ?_⟩ <;> (intros; first | trivial | omega)
      · have a := hA e he
        simpa only [dm_fn hec, dm_iv, dm_dv, hec, and_false, if_false, Nat.add_zero, Nat.sub_zero] using a
    · simp (disch := decide) only [dm_LT, dm_in, dm_dn]
      rw [E_t2, E_ow, E_sh, E_dt]
      by_cases hRc : R = c
      · have hz : dm_s4 (fun x => dm_t2 (k x)) = 0 := by
          apply Classical.byContradiction
          intro z
          have h1 : dm_s4 (fun x => dm_t2 (k x)) = 1 := by have := hT.2.1; omega
          have h2 := hT.2.2.2.2.2.2.2.1 h1
          rw [hRc, hk] at h2
          omega
        exact dm_nT_kR hT hz
      · rw [dm_fn hRc]; exact hT
    · try simp (disch := decide) only [dm_in, dm_dn]
      by_cases hec : e = c
      · rw [hec, dm_fs, E_t2]
        exact dm_B_ro (by omega) b_c
      · rw [dm_fn hec, E_t2]
        exact hB e he
theorem dm_p_pack (h : dm_L0 k gr ac d nd aw n nq R dI dA cu) (hc : c < 4) (hn : 1 ≤ n 11 c) : dm_phi (dm_d n 11 c) nq gr + 1 ≤ dm_phi n nq gr + 0 := by
  have e1 := dm_ds (n := n) (t := 11) hc hn
  try simp (disch := decide) only [dm_in, dm_dn] at e1
  simp (disch := decide) only [dm_phi, dm_in, dm_dn]
  omega
theorem dm_t_fetch0 (h : dm_L0 k gr ac d nd aw n nq R dI dA cu) (hc : c < 4) (hk : k c = 0) :
    dm_L0 (dm_fu k c 4) gr ac d nd aw (dm_i n 0 c) nq R dI dA cu := by
  obtain ⟨hA, hT, hB⟩ := h
  have a_c := hA c hc
  have b_c := hB c hc
  have hT0 := hT
  simp only [dm_LT] at hT
  have e_t2 := dm_s4_g dm_t2 (f := k) (v := 4) hc
  have e_ow := dm_s4_g dm_ow (f := k) (v := 4) hc
  have e_sh := dm_s4_g dm_sh (f := k) (v := 4) hc
  have e_dt := dm_s4_g dm_dt (f := k) (v := 4) hc
  have q0 := dm_tab0
  simp only [hk] at a_c b_c e_t2 e_ow e_sh e_dt
  have q1 := dm_tab4
  have E_t2 : dm_s4 (fun x => dm_t2 (dm_fu k c 4 x)) = dm_s4 (fun x => dm_t2 (k x)) := by omega
  have E_ow : dm_s4 (fun x => dm_ow (dm_fu k c 4 x)) = dm_s4 (fun x => dm_ow (k x)) := by omega
  have E_sh : dm_s4 (fun x => dm_sh (dm_fu k c 4 x)) = dm_s4 (fun x => dm_sh (k x)) := by omega
  have E_dt : dm_s4 (fun x => dm_dt (dm_fu k c 4 x)) = dm_s4 (fun x => dm_dt (k x)) := by omega
  have e1 := dm_is (n := n) (t := 0) hc
  try simp (disch := decide) only [dm_in, dm_dn] at e1
  refine ⟨fun e he => ?_, ?_, fun e he => ?_⟩
  · by_cases hec : e = c
    · rw [hec]
      obtain ⟨x1, x2, x3, x4, x5, x6, x7, x8, x9, x10, x11, x12⟩ := a_c
      simp only [dm_A, dm_iv, dm_dv, dm_fs, and_self, and_true, true_and, if_true, reduceIte, Nat.reduceEqDiff, false_and, and_false, if_false, Nat.add_zero, Nat.sub_zero, hk]
      refine ⟨?_, ?_, ?_, ?_, ?_, ?_, ?_, ?_, ?_, ?_, ?_, ?_⟩ <;> (intros; first | trivial | omega)
    · have a := hA e he
      simpa only [dm_fn hec, dm_iv, dm_dv, hec, and_false, if_false, Nat.add_zero, Nat.sub_zero] using a
  · simp (disch := decide) only [dm_LT, dm_in, dm_dn]
    rw [E_t2, E_ow, E_sh, E_dt]
    by_cases hRc : R = c
    · have hz : dm_s4 (fun x => dm_t2 (k x)) = 0 := by
        apply Classical.byContradiction
        intro z
        have h1 : dm_s4 (fun x => dm_t2 (k x)) = 1 := by have := hT.2.1; omega
        have h2 := hT.2.2.2.2.2.2.2.1 h1
        rw [hRc, hk] at h2
        omega
      exact dm_nT_kR hT hz
    · rw [dm_fn hRc]; exact hT
  · try simp (disch := decide) only [dm_in, dm_dn]
    by_cases hec : e = c
    · rw [hec, dm_fs, E_t2]
      exact dm_B_ro (by omega) b_c
    · rw [dm_fn hec, E_t2]
      exact hB e he
theorem dm_p_fetch0 (h : dm_L0 k gr ac d nd aw n nq R dI dA cu) (hc : c < 4) (hk : k c = 0) : dm_phi (dm_i n 0 c) nq gr + 0 ≤ dm_phi n nq gr + 5 := by
  have e1 := dm_is (n := n) (t := 0) hc
  try simp (disch := decide) only [dm_in, dm_dn] at e1
  simp (disch := decide) only [dm_phi, dm_in, dm_dn]
  omega
theorem dm_t_fetch1 (h : dm_L0 k gr ac d nd aw n nq R dI dA cu) (hc : c < 4) (hk : k c = 0) :
    dm_L0 (dm_fu k c 5) gr ac d nd aw (dm_i n 1 c) nq R dI dA cu := by
  obtain ⟨hA, hT, hB⟩ := h
  have a_c := hA c hc
  have b_c := hB c hc
  have hT0 := hT
  simp only [dm_LT] at hT
  have e_t2 := dm_s4_g dm_t2 (f := k) (v := 5) hc
  have e_ow := dm_s4_g dm_ow (f := k) (v := 5) hc
  have e_sh := dm_s4_g dm_sh (f := k) (v := 5) hc
  have e_dt := dm_s4_g dm_dt (f := k) (v := 5) hc
  have q0 := dm_tab0
  simp only [hk] at a_c b_c e_t2 e_ow e_sh e_dt
  have q1 := dm_tab5
  have E_t2 : dm_s4 (fun x => dm_t2 (dm_fu k c 5 x)) = dm_s4 (fun x => dm_t2 (k x)) := by omega
  have E_ow : dm_s4 (fun x => dm_ow (dm_fu k c 5 x)) = dm_s4 (fun x => dm_ow (k x)) := by omega
  have E_sh : dm_s4 (fun x => dm_sh (dm_fu k c 5 x)) = dm_s4 (fun x => dm_sh (k x)) := by omega
  have E_dt : dm_s4 (fun x => dm_dt (dm_fu k c 5 x)) = dm_s4 (fun x => dm_dt (k x)) := by omega
  have e1 := dm_is (n := n) (t := 1) hc
  try simp (disch := decide) only [dm_in, dm_dn] at e1
  refine ⟨fun e he => ?_, ?_, fun e he => ?_⟩
  · by_cases hec : e = c
    · rw [hec]
      obtain ⟨x1, x2, x3, x4, x5, x6, x7, x8, x9, x10, x11, x12⟩ := a_c
      simp only [dm_A, dm_iv, dm_dv, dm_fs, and_self, and_true, true_and, if_true, reduceIte, Nat.reduceEqDiff, false_and, and_false, if_false, Nat.add_zero, Nat.sub_zero, hk]
      refine ⟨?_, ?_, ?_, ?_, ?_, ?_, ?_, ?_, ?_, ?_, ?_, ?_⟩ <;> (intros; first | trivial | omega)
    · have a := hA e he
      simpa only [dm_fn hec, dm_iv, dm_dv, hec, and_false, if_false, Nat.add_zero, Nat.sub_zero] using a
  · simp (disch := decide) only [dm_LT, dm_in, dm_dn]
    rw [E_t2, E_ow, E_sh, E_dt]
    by_cases hRc : R = c
    · have hz : dm_s4 (fun x => dm_t2 (k x)) = 0 := by
        apply Classical.byContradiction
        intro z
        have h1 : dm_s4 (fun x => dm_t2 (k x)) = 1 := by have := hT.2.1; omega
        have h2 := hT.2.2.2.2.2.2.2.1 h1
        rw [hRc, hk] at h2
        omega
      exact dm_nT_kR hT hz
    · rw [dm_fn hRc]; exact hT
  · try simp (disch := decide) only [dm_in, dm_dn]
    by_cases hec : e = c
    · rw [hec, dm_fs, E_t2]
      exact dm_B_ro (by omega) b_c
    · rw [dm_fn hec, E_t2]
      exact hB e he
theorem dm_p_fetch1 (h : dm_L0 k gr ac d nd aw n nq R dI dA cu) (hc : c < 4) (hk : k c = 0) : dm_phi (dm_i n 1 c) nq gr + 0 ≤ dm_phi n nq gr + 9 := by
  have e1 := dm_is (n := n) (t := 1) hc
  try simp (disch := decide) only [dm_in, dm_dn] at e1
  simp (disch := decide) only [dm_phi, dm_in, dm_dn]
  omega
theorem dm_t_upg (h : dm_L0 k gr ac d nd aw n nq R dI dA cu) (hc : c < 4) (hk : k c = 1) :
    dm_L0 (dm_fu k c 6) gr ac d nd aw (dm_i n 1 c) nq R dI dA cu := by
  obtain ⟨hA, hT, hB⟩ := h
  have a_c := hA c hc
  have b_c := hB c hc
  have hT0 := hT
  simp only [dm_LT] at hT
  have e_t2 := dm_s4_g dm_t2 (f := k) (v := 6) hc
  have e_ow := dm_s4_g dm_ow (f := k) (v := 6) hc
  have e_sh := dm_s4_g dm_sh (f := k) (v := 6) hc
  have e_dt := dm_s4_g dm_dt (f := k) (v := 6) hc
  have q0 := dm_tab1
  simp only [hk] at a_c b_c e_t2 e_ow e_sh e_dt
  have q1 := dm_tab6
  have E_t2 : dm_s4 (fun x => dm_t2 (dm_fu k c 6 x)) = dm_s4 (fun x => dm_t2 (k x)) := by omega
  have E_ow : dm_s4 (fun x => dm_ow (dm_fu k c 6 x)) = dm_s4 (fun x => dm_ow (k x)) := by omega
  have E_sh : dm_s4 (fun x => dm_sh (dm_fu k c 6 x)) = dm_s4 (fun x => dm_sh (k x)) := by omega
  have E_dt : dm_s4 (fun x => dm_dt (dm_fu k c 6 x)) = dm_s4 (fun x => dm_dt (k x)) := by omega
  have e1 := dm_is (n := n) (t := 1) hc
  try simp (disch := decide) only [dm_in, dm_dn] at e1
  refine ⟨fun e he => ?_, ?_, fun e he => ?_⟩
  · by_cases hec : e = c
    · rw [hec]
      obtain ⟨x1, x2, x3, x4, x5, x6, x7, x8, x9, x10, x11, x12⟩ := a_c
      simp only [dm_A, dm_iv, dm_dv, dm_fs, and_self, and_true, true_and, if_true, reduceIte, Nat.reduceEqDiff, false_and, and_false, if_false, Nat.add_zero, Nat.sub_zero, hk]
      refine ⟨?_, ?_, ?_, ?_, ?_, ?_, ?_, ?_, ?_, ?_, ?_, ?_⟩ <;> (intros; first | trivial | omega)
    · have a := hA e he
      simpa only [dm_fn hec, dm_iv, dm_dv, hec, and_false, if_false, Nat.add_zero, Nat.sub_zero] using a
  · simp (disch := decide) only [dm_LT, dm_in, dm_dn]
    rw [E_t2, E_ow, E_sh, E_dt]
    by_cases hRc : R = c
    · have hz : dm_s4 (fun x => dm_t2 (k x)) = 0 := by
        apply Classical.byContradiction
        intro z
        have h1 : dm_s4 (fun x => dm_t2 (k x)) = 1 := by have := hT.2.1; omega
        have h2 := hT.2.2.2.2.2.2.2.1 h1
        rw [hRc, hk] at h2
        omega
      exact dm_nT_kR hT hz
    · rw [dm_fn hRc]; exact hT
  · try simp (disch := decide) only [dm_in, dm_dn]
    by_cases hec : e = c
    · rw [hec, dm_fs, E_t2]
      exact dm_B_ro (by omega) b_c
    · rw [dm_fn hec, E_t2]
      exact hB e he
theorem dm_p_upg (h : dm_L0 k gr ac d nd aw n nq R dI dA cu) (hc : c < 4) (hk : k c = 1) : dm_phi (dm_i n 1 c) nq gr + 0 ≤ dm_phi n nq gr + 9 := by
  have e1 := dm_is (n := n) (t := 1) hc
  try simp (disch := decide) only [dm_in, dm_dn] at e1
  simp (disch := decide) only [dm_phi, dm_in, dm_dn]
  omega
theorem dm_t_give1 (h : dm_L0 k gr ac d nd aw n nq R dI dA cu) (hc : c < 4) (hk : k c = 1) :
    dm_L0 (dm_fu k c 7) gr ac d nd aw (dm_i n 2 c) nq R dI dA cu := by
  obtain ⟨hA, hT, hB⟩ := h
  have a_c := hA c hc
  have b_c := hB c hc
  have hT0 := hT
  simp only [dm_LT] at hT
  have e_t2 := dm_s4_g dm_t2 (f := k) (v := 7) hc
  have e_ow := dm_s4_g dm_ow (f := k) (v := 7) hc
  have e_sh := dm_s4_g dm_sh (f := k) (v := 7) hc
  have e_dt := dm_s4_g dm_dt (f := k) (v := 7) hc
  have q0 := dm_tab1
  simp only [hk] at a_c b_c e_t2 e_ow e_sh e_dt
  have q1 := dm_tab7
  have E_t2 : dm_s4 (fun x => dm_t2 (dm_fu k c 7 x)) = dm_s4 (fun x => dm_t2 (k x)) := by omega
  have E_ow : dm_s4 (fun x => dm_ow (dm_fu k c 7 x)) = dm_s4 (fun x => dm_ow (k x)) := by omega
  have E_sh : dm_s4 (fun x => dm_sh (dm_fu k c 7 x)) = dm_s4 (fun x => dm_sh (k x)) := by omega
  have E_dt : dm_s4 (fun x => dm_dt (dm_fu k c 7 x)) = dm_s4 (fun x => dm_dt (k x)) := by omega
  have e1 := dm_is (n := n) (t := 2) hc
  try simp (disch := decide) only [dm_in, dm_dn] at e1
  refine ⟨fun e he => ?_, ?_, fun e he => ?_⟩
  · by_cases hec : e = c
    · rw [hec]
      obtain ⟨x1, x2, x3, x4, x5, x6, x7, x8, x9, x10, x11, x12⟩ := a_c
      simp only [dm_A, dm_iv, dm_dv, dm_fs, and_self, and_true, true_and, if_true, reduceIte, Nat.reduceEqDiff, false_and, and_false, if_false, Nat.add_zero, Nat.sub_zero, hk]
      refine ⟨?_, ?_, ?_, ?_, ?_, ?_, ?_, ?_, ?_, ?_, ?_, ?_⟩ <;> (intros; first | trivial | omega)
    · have a := hA e he
      simpa only [dm_fn hec, dm_iv, dm_dv, hec, and_false, if_false, Nat.add_zero, Nat.sub_zero] using a
  · simp (disch := decide) only [dm_LT, dm_in, dm_dn]
    rw [E_t2, E_ow, E_sh, E_dt]
    by_cases hRc : R = c
    · have hz : dm_s4 (fun x => dm_t2 (k x)) = 0 := by
        apply Classical.byContradiction
        intro z
        have h1 : dm_s4 (fun x => dm_t2 (k x)) = 1 := by have := hT.2.1; omega
        have h2 := hT.2.2.2.2.2.2.2.1 h1
        rw [hRc, hk] at h2
        omega
      exact dm_nT_kR hT hz
    · rw [dm_fn hRc]; exact hT
  · try simp (disch := decide) only [dm_in, dm_dn]
    by_cases hec : e = c
    · rw [hec, dm_fs, E_t2]
      exact dm_B_ro (by omega) b_c
    · rw [dm_fn hec, E_t2]
      exact hB e he
theorem dm_p_give1 (h : dm_L0 k gr ac d nd aw n nq R dI dA cu) (hc : c < 4) (hk : k c = 1) : dm_phi (dm_i n 2 c) nq gr + 0 ≤ dm_phi n nq gr + 2 := by
  have e1 := dm_is (n := n) (t := 2) hc
  try simp (disch := decide) only [dm_in, dm_dn] at e1
  simp (disch := decide) only [dm_phi, dm_in, dm_dn]
  omega
theorem dm_t_give2 (h : dm_L0 k gr ac d nd aw n nq R dI dA cu) (hc : c < 4) (hk : k c = 2) :
    dm_L0 (dm_fu k c 8) gr ac d nd aw (dm_i n 2 c) nq R dI dA cu := by
  obtain ⟨hA, hT, hB⟩ := h
  have a_c := hA c hc
  have b_c := hB c hc
  have hT0 := hT
  simp only [dm_LT] at hT
  have e_t2 := dm_s4_g dm_t2 (f := k) (v := 8) hc
  have e_ow := dm_s4_g dm_ow (f := k) (v := 8) hc
  have e_sh := dm_s4_g dm_sh (f := k) (v := 8) hc
  have e_dt := dm_s4_g dm_dt (f := k) (v := 8) hc
  have q0 := dm_tab2
  simp only [hk] at a_c b_c e_t2 e_ow e_sh e_dt
  have q1 := dm_tab8
  have E_t2 : dm_s4 (fun x => dm_t2 (dm_fu k c 8 x)) = dm_s4 (fun x => dm_t2 (k x)) := by omega
  have E_ow : dm_s4 (fun x => dm_ow (dm_fu k c 8 x)) = dm_s4 (fun x => dm_ow (k x)) := by omega
  have E_sh : dm_s4 (fun x => dm_sh (dm_fu k c 8 x)) = dm_s4 (fun x => dm_sh (k x)) := by omega
  have E_dt : dm_s4 (fun x => dm_dt (dm_fu k c 8 x)) = dm_s4 (fun x => dm_dt (k x)) := by omega
  have e1 := dm_is (n := n) (t := 2) hc
  try simp (disch := decide) only [dm_in, dm_dn] at e1
  refine ⟨fun e he => ?_, ?_, fun e he => ?_⟩
  · by_cases hec : e = c
    · rw [hec]
      obtain ⟨x1, x2, x3, x4, x5, x6, x7, x8, x9, x10, x11, x12⟩ := a_c
      simp only [dm_A, dm_iv, dm_dv, dm_fs, and_self, and_true, true_and, if_true, reduceIte, Nat.reduceEqDiff, false_and, and_false, if_false, Nat.add_zero, Nat.sub_zero, hk]
      refine ⟨?_, ?_, ?_, ?_, ?_, ?_, ?_, ?_, ?_, ?_, ?_, ?_⟩ <;> (intros; first | trivial | omega)
    · have a := hA e he
      simpa only [dm_fn hec, dm_iv, dm_dv, hec, and_false, if_false, Nat.add_zero, Nat.sub_zero] using a
  · simp (disch := decide) only [dm_LT, dm_in, dm_dn]
    rw [E_t2, E_ow, E_sh, E_dt]
    by_cases hRc : R = c
    · have hz : dm_s4 (fun x => dm_t2 (k x)) = 0 := by
        apply Classical.byContradiction
        intro z
        have h1 : dm_s4 (fun x => dm_t2 (k x)) = 1 := by have := hT.2.1; omega
        have h2 := hT.2.2.2.2.2.2.2.1 h1
        rw [hRc, hk] at h2
        omega
      exact dm_nT_kR hT hz
    · rw [dm_fn hRc]; exact hT
  · try simp (disch := decide) only [dm_in, dm_dn]
    by_cases hec : e = c
    · rw [hec, dm_fs, E_t2]
      exact dm_B_ro (by omega) b_c
    · rw [dm_fn hec, E_t2]
      exact hB e he
theorem dm_p_give2 (h : dm_L0 k gr ac d nd aw n nq R dI dA cu) (hc : c < 4) (hk : k c = 2) : dm_phi (dm_i n 2 c) nq gr + 0 ≤ dm_phi n nq gr + 2 := by
  have e1 := dm_is (n := n) (t := 2) hc
  try simp (disch := decide) only [dm_in, dm_dn] at e1
  simp (disch := decide) only [dm_phi, dm_in, dm_dn]
  omega
theorem dm_t_give3 (h : dm_L0 k gr ac d nd aw n nq R dI dA cu) (hc : c < 4) (hk : k c = 3) :
    dm_L0 (dm_fu k c 9) gr ac d nd aw (dm_i n 2 c) nq R dI dA cu := by
  obtain ⟨hA, hT, hB⟩ := h
  have a_c := hA c hc
  have b_c := hB c hc
  have hT0 := hT
  simp only [dm_LT] at hT
  have e_t2 := dm_s4_g dm_t2 (f := k) (v := 9) hc
  have e_ow := dm_s4_g dm_ow (f := k) (v := 9) hc
  have e_sh := dm_s4_g dm_sh (f := k) (v := 9) hc
  have e_dt := dm_s4_g dm_dt (f := k) (v := 9) hc
  have q0 := dm_tab3
  simp only [hk] at a_c b_c e_t2 e_ow e_sh e_dt
  have q1 := dm_tab9
  have E_t2 : dm_s4 (fun x => dm_t2 (dm_fu k c 9 x)) = dm_s4 (fun x => dm_t2 (k x)) := by omega
  have E_ow : dm_s4 (fun x => dm_ow (dm_fu k c 9 x)) = dm_s4 (fun x => dm_ow (k x)) := by omega
  have E_sh : dm_s4 (fun x => dm_sh (dm_fu k c 9 x)) = dm_s4 (fun x => dm_sh (k x)) := by omega
  have E_dt : dm_s4 (fun x => dm_dt (dm_fu k c 9 x)) = dm_s4 (fun x => dm_dt (k x)) := by omega
  have e1 := dm_is (n := n) (t := 2) hc
  try simp (disch := decide) only [dm_in, dm_dn] at e1
  refine ⟨fun e he => ?_, ?_, fun e he => ?_⟩
  · by_cases hec : e = c
    · rw [hec]
      obtain ⟨x1, x2, x3, x4, x5, x6, x7, x8, x9, x10, x11, x12⟩ := a_c
      simp only [dm_A, dm_iv, dm_dv, dm_fs, and_self, and_true, true_and, if_true, reduceIte, Nat.reduceEqDiff, false_and, and_false, if_false, Nat.add_zero, Nat.sub_zero, hk]
      refine ⟨?_, ?_, ?_, ?_, ?_, ?_, ?_, ?_, ?_, ?_, ?_, ?_⟩ <;> (intros; first | trivial | omega)
    · have a := hA e he
      simpa only [dm_fn hec, dm_iv, dm_dv, hec, and_false, if_false, Nat.add_zero, Nat.sub_zero] using a
  · simp (disch := decide) only [dm_LT, dm_in, dm_dn]
    rw [E_t2, E_ow, E_sh, E_dt]
    by_cases hRc : R = c
    · have hz : dm_s4 (fun x => dm_t2 (k x)) = 0 := by
        apply Classical.byContradiction
        intro z
        have h1 : dm_s4 (fun x => dm_t2 (k x)) = 1 := by have := hT.2.1; omega
        have h2 := hT.2.2.2.2.2.2.2.1 h1
        rw [hRc, hk] at h2
        omega
      exact dm_nT_kR hT hz
    · rw [dm_fn hRc]; exact hT
  · try simp (disch := decide) only [dm_in, dm_dn]
    by_cases hec : e = c
    · rw [hec, dm_fs, E_t2]
      exact dm_B_ro (by omega) b_c
    · rw [dm_fn hec, E_t2]
      exact hB e he
theorem dm_p_give3 (h : dm_L0 k gr ac d nd aw n nq R dI dA cu) (hc : c < 4) (hk : k c = 3) : dm_phi (dm_i n 2 c) nq gr + 0 ≤ dm_phi n nq gr + 2 := by
  have e1 := dm_is (n := n) (t := 2) hc
  try simp (disch := decide) only [dm_in, dm_dn] at e1
  simp (disch := decide) only [dm_phi, dm_in, dm_dn]
  omega
end
end
section
section
variable {k gr d nd : Nat → Nat} {ac : Nat → Int} {aw : Nat} {n nq : Nat → Nat → Nat} {R dI dA cu c o : Nat}
theorem dm_ex1 (h : dm_LT k gr ac aw n R dI dA cu) (ho : o < 4) (hw : dm_ow (k o) = 1) : ∀ e, e < 4 → e ≠ o → dm_ro (k e) = 0 := by
  intro e he hne
  simp only [dm_LT] at h
  have b1 : dm_ow (k o) + dm_ow (k e) ≤ dm_s4 (fun c => dm_ow (k c)) := dm_s4_le2 (f := fun c => dm_ow (k c)) ho he (fun z => hne z.symm)
  have b2 : dm_sh (k e) ≤ dm_s4 (fun c => dm_sh (k c)) := dm_s4_le (f := fun c => dm_sh (k c)) he
  have b3 : dm_ow (k o) ≤ dm_s4 (fun c => dm_ow (k c)) := dm_s4_le (f := fun c => dm_ow (k c)) ho
  have h5 := h.2.2.2.2.1
  have h6 := (h.2.2.2.2.2.1 (by omega)).1
  rw [dm_ro]; omega
theorem dm_idle (h : dm_LT k gr ac 0 n R dI dA cu) : ∀ e, e < 4 → dm_t2 (k e) = 0 ∧ n 5 e = 0 ∧ n 6 e = 0 ∧ n 7 e = 0 ∧ n 8 e = 0 ∧ n 9 e = 0 ∧ n 10 e = 0 ∧ gr e = 0 := by
  intro e he
  have z := dm_T_idle h
  have la : dm_t2 (k e) ≤ dm_s4 (fun c => dm_t2 (k c)) := dm_s4_le (f := fun c => dm_t2 (k c)) he
  have lb := dm_s4_le (f := n 5) he
  have lc := dm_s4_le (f := n 6) he
  have ld := dm_s4_le (f := n 7) he
  have le := dm_s4_le (f := n 8) he
  have lf := dm_s4_le (f := n 9) he
  have lg := dm_s4_le (f := n 10) he
  have lh := dm_s4_le (f := gr) he
  omega
theorem dm_ro_ow {x : Nat} (h : dm_ro x = 2) : dm_ow x = 1 ∧ dm_sh x = 0 := by
  have h1 : dm_sh x ≤ 1 := by rw [dm_sh]; split <;> omega
  rw [dm_ro] at h; omega
theorem dm_noow (h : ∀ e, e < 4 → dm_ow (k e) = 0) : dm_s4 (fun c => dm_ow (k c)) = 0 := by
  simp only [dm_s4]; rw [h 0 (by omega), h 1 (by omega), h 2 (by omega), h 3 (by omega)]
theorem dm_nosh (h : ∀ e, e < 4 → dm_sh (k e) = 0) : dm_s4 (fun c => dm_sh (k c)) = 0 := by
  simp only [dm_s4]; rw [h 0 (by omega), h 1 (by omega), h 2 (by omega), h 3 (by omega)]
theorem dm_ro_le {x : Nat} (h : dm_ro x ≠ 2) : dm_ow x = 0 ∧ dm_ro x = dm_sh x ∧ dm_sh x ≤ 1 := by
  have h1 : dm_sh x ≤ 1 := by rw [dm_sh]; split <;> omega
  have h2 : dm_ow x ≤ 1 := by rw [dm_ow]; split <;> omega
  rw [dm_ro] at h ⊢
  have h3 : ¬ (dm_sh x = 1 ∧ dm_ow x = 1) := by simp only [dm_sh, dm_ow]; split <;> split <;> omega
  omega
theorem dm_t_srO (h : dm_L0 k gr ac d nd aw n nq R dI dA cu) (hc : c < 4) (ho : o < 4) (hn : 1 ≤ nq 0 c) (hw : aw = 0) (hd : d o = 2) :
    dm_L0 (dm_fu k c 11) gr ac d (fun x => if x = c ∨ x = o then 1 else 0) 2 (dm_i n 5 o) (dm_d nq 0 c) c 1 dA cu := by
  obtain ⟨hA, hT, hB⟩ := h
  have a_c := hA c hc
  have b_c := hB c hc
  have a_o := hA o ho
  have b_o := hB o ho
  have hT0 := hT
  simp only [dm_LT] at hT
  subst hw
  have hro : dm_ro (k o) = 2 := by have := b_o.1 rfl; omega
  have hwo := (dm_ro_ow hro).1
  have hex := dm_ex1 hT0 ho hwo
  have hk := dm_w0_k (x := k c) (by have := a_c.2.1; omega)
  have hco : c ≠ o := fun z => by rw [z] at hk; rw [hk] at hwo; exact absurd hwo (by decide)
  have e_t2 := dm_s4_g dm_t2 (f := k) (v := 11) hc
  have e_ow := dm_s4_g dm_ow (f := k) (v := 11) hc
  have e_sh := dm_s4_g dm_sh (f := k) (v := 11) hc
  have e_dt := dm_s4_g dm_dt (f := k) (v := 11) hc
  have q0 := dm_tab4
  simp only [hk] at a_c b_c e_t2 e_ow e_sh e_dt
  have q1 := dm_tab11
  have E_t2 : dm_s4 (fun x => dm_t2 (dm_fu k c 11 x)) = dm_s4 (fun x => dm_t2 (k x)) + 1 := by omega
  have E_ow : dm_s4 (fun x => dm_ow (dm_fu k c 11 x)) = dm_s4 (fun x => dm_ow (k x)) := by omega
  have E_sh : dm_s4 (fun x => dm_sh (dm_fu k c 11 x)) = dm_s4 (fun x => dm_sh (k x)) := by omega
  have E_dt : dm_s4 (fun x => dm_dt (dm_fu k c 11 x)) = dm_s4 (fun x => dm_dt (k x)) := by omega
  have e1 := dm_is (n := n) (t := 5) ho
  try simp (disch := decide) only [dm_in, dm_dn] at e1
  have hac : ac c = 0 := a_c.2.2.2.2.2.2.2.1 (by omega)
  have hT2 : dm_s4 (fun x => dm_t2 (dm_fu k c 11 x)) = 1 := by have := (dm_T_idle hT0).1; omega
  have z1 := dm_idle hT0 c hc
  refine ⟨fun e he => ?_, ?_, fun e he => ?_⟩
  · by_cases hec : e = c
    · rw [hec]
      obtain ⟨x1, x2, x3, x4, x5, x6, x7, x8, x9, x10, x11, x12⟩ := a_c
      simp only [dm_A, dm_iv, dm_dv, dm_fs, and_self, and_true, true_and, if_true, reduceIte, Nat.reduceEqDiff, false_and, and_false, if_false, Nat.add_zero, Nat.sub_zero, hk, hco]
      refine ⟨?_, ?_, ?_, ?_, ?_, ?_, ?_, ?_, ?_, ?_, ?_, ?_⟩ <;> (intros; first | trivial | omega)
    · have a := hA e he
      have z := dm_idle hT0 e he
      obtain ⟨x1, x2, x3, x4, x5, x6, x7, x8, x9, x10, x11, x12⟩ := a
      by_cases heo : e = o
      · subst heo
        simp only [dm_A, dm_fn hec, dm_iv, dm_dv, hec, and_false, if_false, Nat.add_zero, Nat.sub_zero, reduceIte, Nat.reduceEqDiff, false_and, true_and, and_self, if_true]
        refine ⟨?_, ?_, ?_, ?_, ?_, ?_, ?_, ?_, ?_, ?_, ?_, ?_⟩ <;> (intros; first | trivial | omega)
      · simp only [dm_A, dm_fn hec, dm_iv, dm_dv, hec, and_false, if_false, Nat.add_zero, Nat.sub_zero, reduceIte, Nat.reduceEqDiff, false_and, true_and, heo]
        refine ⟨?_, ?_, ?_, ?_, ?_, ?_, ?_, ?_, ?_, ?_, ?_, ?_⟩ <;> (intros; first | trivial | omega)
  · simp (disch := decide) only [dm_LT, dm_in, dm_dn]
    rw [E_t2, E_ow, E_sh, E_dt, e1, dm_fs, hac]
    exact dm_nT_srO hT hc
  · try simp (disch := decide) only [dm_in, dm_dn]
    by_cases hec : e = c
    · rw [hec, dm_fs, hT2]
      exact ⟨fun z => absurd z (by decide), fun _ => by rw [dm_nx1]; simp, fun _ z => absurd rfl z⟩
    · rw [dm_fn hec, hT2]
      refine ⟨fun z => absurd z (by decide), fun _ => ?_, fun _ z => absurd rfl z⟩
      rw [dm_nx1, if_neg hec]
      by_cases heo : e = o
      · rw [heo, hro]; simp
      · rw [hex e he heo]; simp [hec, heo]
theorem dm_p_srO (h : dm_L0 k gr ac d nd aw n nq R dI dA cu) (hc : c < 4) (ho : o < 4) (hn : 1 ≤ nq 0 c) (hw : aw = 0) (hd : d o = 2) : dm_phi (dm_i n 5 o) (dm_d nq 0 c) gr + 0 ≤ dm_phi n nq gr + 0 := by
  have e1 := dm_is (n := n) (t := 5) ho
  have e2 := dm_ds (n := nq) (t := 0) hc hn
  try simp (disch := decide) only [dm_in, dm_dn] at e1 e2
  simp (disch := decide) only [dm_phi, dm_in, dm_dn]
  omega
theorem dm_t_srE (h : dm_L0 k gr ac d nd aw n nq R dI dA cu) (hc : c < 4) (hn : 1 ≤ nq 0 c) (hw : aw = 0) (hd : ∀ o, o < 4 → d o = 0) :
    dm_L0 (dm_fu k c 11) gr ac d (fun x => if x = c then 2 else 0) 1 (dm_i n 9 c) (dm_d nq 0 c) c 2 0 cu := by
  obtain ⟨hA, hT, hB⟩ := h
  have a_c := hA c hc
  have b_c := hB c hc
  have hT0 := hT
  simp only [dm_LT] at hT
  subst hw
  have hoo : ∀ e, e < 4 → dm_ro (k e) ≠ 2 := fun e he => by have := (hB e he).1 rfl; have := hd e he; omega
  have hOW := dm_noow (k := k) (fun e he => (dm_ro_le (hoo e he)).1)
  have hk := dm_w0_k (x := k c) (by have := a_c.2.1; omega)
  have e_t2 := dm_s4_g dm_t2 (f := k) (v := 11) hc
  have e_ow := dm_s4_g dm_ow (f := k) (v := 11) hc
  have e_sh := dm_s4_g dm_sh (f := k) (v := 11) hc
  have e_dt := dm_s4_g dm_dt (f := k) (v := 11) hc
  have q0 := dm_tab4
  simp only [hk] at a_c b_c e_t2 e_ow e_sh e_dt
  have q1 := dm_tab11
  have E_t2 : dm_s4 (fun x => dm_t2 (dm_fu k c 11 x)) = dm_s4 (fun x => dm_t2 (k x)) + 1 := by omega
  have E_ow : dm_s4 (fun x => dm_ow (dm_fu k c 11 x)) = dm_s4 (fun x => dm_ow (k x)) := by omega
  have E_sh : dm_s4 (fun x => dm_sh (dm_fu k c 11 x)) = dm_s4 (fun x => dm_sh (k x)) := by omega
  have E_dt : dm_s4 (fun x => dm_dt (dm_fu k c 11 x)) = dm_s4 (fun x => dm_dt (k x)) := by omega
  have e1 := dm_is (n := n) (t := 9) hc
  try simp (disch := decide) only [dm_in, dm_dn] at e1
  have hac : ac c = 0 := a_c.2.2.2.2.2.2.2.1 (by omega)
  have hT2 : dm_s4 (fun x => dm_t2 (dm_fu k c 11 x)) = 1 := by have := (dm_T_idle hT0).1; omega
  have z1 := dm_idle hT0 c hc
  refine ⟨fun e he => ?_, ?_, fun e he => ?_⟩
  · by_cases hec : e = c
    · rw [hec]
      obtain ⟨x1, x2, x3, x4, x5, x6, x7, x8, x9, x10, x11, x12⟩ := a_c
      simp only [dm_A, dm_iv, dm_dv, dm_fs, and_self, and_true, true_and, if_true, reduceIte, Nat.reduceEqDiff, false_and, and_false, if_false, Nat.add_zero, Nat.sub_zero, hk]
      refine ⟨?_, ?_, ?_, ?_, ?_, ?_, ?_, ?_, ?_, ?_, ?_, ?_⟩ <;> (intros; first | trivial | omega)
    · have a := hA e he
      have z := dm_idle hT0 e he
      obtain ⟨x1, x2, x3, x4, x5, x6, x7, x8, x9, x10, x11, x12⟩ := a
      simp only [dm_A, dm_fn hec, dm_iv, dm_dv, hec, and_false, if_false, Nat.add_zero, Nat.sub_zero, reduceIte, Nat.reduceEqDiff, false_and, true_and]
      refine ⟨?_, ?_, ?_, ?_, ?_, ?_, ?_, ?_, ?_, ?_, ?_, ?_⟩ <;> (intros; first | trivial | omega)
  · simp (disch := decide) only [dm_LT, dm_in, dm_dn]
    rw [E_t2, E_ow, E_sh, E_dt, e1, dm_fs, hac]
    exact dm_nT_sr hT hOW hc (Or.inr rfl)
  · try simp (disch := decide) only [dm_in, dm_dn]
    by_cases hec : e = c
    · rw [hec, dm_fs, hT2]
      exact ⟨fun z => absurd z (by decide), fun _ => by rw [dm_nx2 (by decide)], fun _ _ _ z => absurd rfl z⟩
    · rw [dm_fn hec, hT2]
      refine ⟨fun z => absurd z (by decide), fun _ => by rw [dm_nx2 (by decide)], fun _ _ _ _ => ?_⟩
      have := (hB e he).1 rfl
      have := hd e he
      have := dm_idle hT0 e he
      omega
theorem dm_p_srE (h : dm_L0 k gr ac d nd aw n nq R dI dA cu) (hc : c < 4) (hn : 1 ≤ nq 0 c) (hw : aw = 0) (hd : ∀ o, o < 4 → d o = 0) : dm_phi (dm_i n 9 c) (dm_d nq 0 c) gr + 0 ≤ dm_phi n nq gr + 0 := by
  have e1 := dm_is (n := n) (t := 9) hc
  have e2 := dm_ds (n := nq) (t := 0) hc hn
  try simp (disch := decide) only [dm_in, dm_dn] at e1 e2
  simp (disch := decide) only [dm_phi, dm_in, dm_dn]
  omega
theorem dm_t_srS (h : dm_L0 k gr ac d nd aw n nq R dI dA cu) (hc : c < 4) (hn : 1 ≤ nq 0 c) (hw : aw = 0) (hd : ∀ o, o < 4 → d o ≠ 2) :
    dm_L0 (dm_fu k c 11) gr ac d (dm_fu d c 1) 1 (dm_i n 9 c) (dm_d nq 0 c) c 1 0 cu := by
  obtain ⟨hA, hT, hB⟩ := h
  have a_c := hA c hc
  have b_c := hB c hc
  have hT0 := hT
  simp only [dm_LT] at hT
  subst hw
  have hoo : ∀ e, e < 4 → dm_ro (k e) ≠ 2 := fun e he => by have := (hB e he).1 rfl; have := hd e he; omega
  have hOW := dm_noow (k := k) (fun e he => (dm_ro_le (hoo e he)).1)
  have hk := dm_w0_k (x := k c) (by have := a_c.2.1; omega)
  have e_t2 := dm_s4_g dm_t2 (f := k) (v := 11) hc
  have e_ow := dm_s4_g dm_ow (f := k) (v := 11) hc
  have e_sh := dm_s4_g dm_sh (f := k) (v := 11) hc
  have e_dt := dm_s4_g dm_dt (f := k) (v := 11) hc
  have q0 := dm_tab4
  simp only [hk] at a_c b_c e_t2 e_ow e_sh e_dt
  have q1 := dm_tab11
  have E_t2 : dm_s4 (fun x => dm_t2 (dm_fu k c 11 x)) = dm_s4 (fun x => dm_t2 (k x)) + 1 := by omega
  have E_ow : dm_s4 (fun x => dm_ow (dm_fu k c 11 x)) = dm_s4 (fun x => dm_ow (k x)) := by omega
  have E_sh : dm_s4 (fun x => dm_sh (dm_fu k c 11 x)) = dm_s4 (fun x => dm_sh (k x)) := by omega
  have E_dt : dm_s4 (fun x => dm_dt (dm_fu k c 11 x)) = dm_s4 (fun x => dm_dt (k x)) := by omega
  have e1 := dm_is (n := n) (t := 9) hc
  try simp (disch := decide) only [dm_in, dm_dn] at e1
  have hac : ac c = 0 := a_c.2.2.2.2.2.2.2.1 (by omega)
  have hT2 : dm_s4 (fun x => dm_t2 (dm_fu k c 11 x)) = 1 := by have := (dm_T_idle hT0).1; omega
  have z1 := dm_idle hT0 c hc
  refine ⟨fun e he => ?_, ?_, fun e he => ?_⟩
  · by_cases hec : e = c
    · rw [hec]
      obtain ⟨x1, x2, x3, x4, x5, x6, x7, x8, x9, x10, x11, x12⟩ := a_c
      simp only [dm_A, dm_iv, dm_dv, dm_fs, and_self, and_true, true_and, if_true, reduceIte, Nat.reduceEqDiff, false_and, and_false, if_false, Nat.add_zero, Nat.sub_zero, hk]
      refine ⟨?_, ?_, ?_, ?_, ?_, ?_, ?_, ?_, ?_, ?_, ?_, ?_⟩ <;> (intros; first | trivial | omega)
    · have a := hA e he
      have z := dm_idle hT0 e he
      obtain ⟨x1, x2, x3, x4, x5, x6, x7, x8, x9, x10, x11, x12⟩ := a
      simp only [dm_A, dm_fn hec, dm_iv, dm_dv, hec, and_false, if_false, Nat.add_zero, Nat.sub_zero, reduceIte, Nat.reduceEqDiff, false_and, true_and]
      refine ⟨?_, ?_, ?_, ?_, ?_, ?_, ?_, ?_, ?_, ?_, ?_, ?_⟩ <;> (intros; first | trivial | omega)
  · simp (disch := decide) only [dm_LT, dm_in, dm_dn]
    rw [E_t2, E_ow, E_sh, E_dt, e1, dm_fs, hac]
    exact dm_nT_sr hT hOW hc (Or.inl rfl)
  · try simp (disch := decide) only [dm_in, dm_dn]
    by_cases hec : e = c
    · rw [hec, dm_fs, dm_fs, hT2]
      exact ⟨fun z => absurd z (by decide), fun _ => by rw [dm_nx1]; simp, fun _ z => absurd rfl z⟩
    · rw [dm_fn hec, dm_fn hec, hT2]
      refine ⟨fun z => absurd z (by decide), fun _ => ?_, fun _ z => absurd rfl z⟩
      rw [dm_nx1, if_neg hec, (hB e he).1 rfl]
      have := dm_ro_le (hoo e he)
      split <;> omega
theorem dm_p_srS (h : dm_L0 k gr ac d nd aw n nq R dI dA cu) (hc : c < 4) (hn : 1 ≤ nq 0 c) (hw : aw = 0) (hd : ∀ o, o < 4 → d o ≠ 2) : dm_phi (dm_i n 9 c) (dm_d nq 0 c) gr + 0 ≤ dm_phi n nq gr + 0 := by
  have e1 := dm_is (n := n) (t := 9) hc
  have e2 := dm_ds (n := nq) (t := 0) hc hn
  try simp (disch := decide) only [dm_in, dm_dn] at e1 e2
  simp (disch := decide) only [dm_phi, dm_in, dm_dn]
  omega
theorem dm_t_swO (h : dm_L0 k gr ac d nd aw n nq R dI dA cu) (hc : c < 4) (ho : o < 4) (hn : 1 ≤ nq 1 c) (hw : aw = 0) (hd : d o = 2) :
    dm_L0 (dm_fu k c 12) gr ac d (fun x => if x = c then 2 else 0) 1 (dm_i n 6 o) (dm_d nq 1 c) c 2 dA cu := by
  obtain ⟨hA, hT, hB⟩ := h
  have a_c := hA c hc
  have b_c := hB c hc
  have a_o := hA o ho
  have b_o := hB o ho
  have hT0 := hT
  simp only [dm_LT] at hT
  subst hw
  have hro : dm_ro (k o) = 2 := by have := b_o.1 rfl; omega
  have hwo := (dm_ro_ow hro).1
  have hex := dm_ex1 hT0 ho hwo
  have hk := dm_w1_k (x := k c) (by have := a_c.2.2.1; omega)
  have hco : c ≠ o := fun z => by rw [z] at hk; rcases hk with e | e <;> rw [e] at hwo <;> exact absurd hwo (by decide)
  have hk : k c = 5 := by
    rcases hk with e | e
    · exact e
    · have := hex c hc hco; rw [e] at this; exact absurd this (by decide)
  have e_t2 := dm_s4_g dm_t2 (f := k) (v := 12) hc
  have e_ow := dm_s4_g dm_ow (f := k) (v := 12) hc
  have e_sh := dm_s4_g dm_sh (f := k) (v := 12) hc
  have e_dt := dm_s4_g dm_dt (f := k) (v := 12) hc
  have q0 := dm_tab5
  simp only [hk] at a_c b_c e_t2 e_ow e_sh e_dt
  have q1 := dm_tab12
  have E_t2 : dm_s4 (fun x => dm_t2 (dm_fu k c 12 x)) = dm_s4 (fun x => dm_t2 (k x)) + 1 := by omega
  have E_ow : dm_s4 (fun x => dm_ow (dm_fu k c 12 x)) = dm_s4 (fun x => dm_ow (k x)) := by omega
  have E_sh : dm_s4 (fun x => dm_sh (dm_fu k c 12 x)) = dm_s4 (fun x => dm_sh (k x)) := by omega
  have E_dt : dm_s4 (fun x => dm_dt (dm_fu k c 12 x)) = dm_s4 (fun x => dm_dt (k x)) := by omega
  have e1 := dm_is (n := n) (t := 6) ho
  try simp (disch := decide) only [dm_in, dm_dn] at e1
  have hac : ac c = 0 := a_c.2.2.2.2.2.2.2.1 (by omega)
  have hT2 : dm_s4 (fun x => dm_t2 (dm_fu k c 12 x)) = 1 := by have := (dm_T_idle hT0).1; omega
  have z1 := dm_idle hT0 c hc
  refine ⟨fun e he => ?_, ?_, fun e he => ?_⟩
  · by_cases hec : e = c
    · rw [hec]
      obtain ⟨x1, x2, x3, x4, x5, x6, x7, x8, x9, x10, x11, x12⟩ := a_c
      simp only [dm_A, dm_iv, dm_dv, dm_fs, and_self, and_true, true_and, if_true, reduceIte, Nat.reduceEqDiff, false_and, and_false, if_false, Nat.add_zero, Nat.sub_zero, hk, hco]
      refine ⟨?_, ?_, ?_, ?_, ?_, ?_, ?_, ?_, ?_, ?_, ?_, ?_⟩ <;> (intros; first | trivial | omega)
    · have a := hA e he
      have z := dm_idle hT0 e he
      obtain ⟨x1, x2, x3, x4, x5, x6, x7, x8, x9, x10, x11, x12⟩ := a
      by_cases heo : e = o
      · subst heo
        simp only [dm_A, dm_fn hec, dm_iv, dm_dv, hec, and_false, if_false, Nat.add_zero, Nat.sub_zero, reduceIte, Nat.reduceEqDiff, false_and, true_and, and_self, if_true]
        refine ⟨?_, ?_, ?_, ?_, ?_, ?_, ?_, ?_, ?_, ?_, ?_, ?_⟩ <;> (intros; first | trivial | omega)
      · simp only [dm_A, dm_fn hec, dm_iv, dm_dv, hec, and_false, if_false, Nat.add_zero, Nat.sub_zero, reduceIte, Nat.reduceEqDiff, false_and, true_and, heo]
        refine ⟨?_, ?_, ?_, ?_, ?_, ?_, ?_, ?_, ?_, ?_, ?_, ?_⟩ <;> (intros; first | trivial | omega)
  · simp (disch := decide) only [dm_LT, dm_in, dm_dn]
    rw [E_t2, E_ow, E_sh, E_dt, e1, dm_fs, hac]
    exact dm_nT_swO hT hc
  · try simp (disch := decide) only [dm_in, dm_dn]
    by_cases hec : e = c
    · rw [hec, dm_fs, hT2]
      exact ⟨fun z => absurd z (by decide), fun _ => by rw [dm_nx2 (by decide)], fun _ _ z => absurd z (by omega)⟩
    · rw [dm_fn hec, hT2]
      exact ⟨fun z => absurd z (by decide), fun _ => by rw [dm_nx2 (by decide)], fun _ _ z => absurd z (by omega)⟩
theorem dm_p_swO (h : dm_L0 k gr ac d nd aw n nq R dI dA cu) (hc : c < 4) (ho : o < 4) (hn : 1 ≤ nq 1 c) (hw : aw = 0) (hd : d o = 2) : dm_phi (dm_i n 6 o) (dm_d nq 1 c) gr + 0 ≤ dm_phi n nq gr + 0 := by
  have e1 := dm_is (n := n) (t := 6) ho
  have e2 := dm_ds (n := nq) (t := 1) hc hn
  try simp (disch := decide) only [dm_in, dm_dn] at e1 e2
  simp (disch := decide) only [dm_phi, dm_in, dm_dn]
  omega
theorem dm_t_sp7 (h : dm_L0 k gr ac d nd aw n nq R dI dA cu) (hc : c < 4) (hn : 1 ≤ nq 2 c) (hw : aw = 0) (hk : k c = 7) :
    dm_L0 (dm_fu k c 14) gr ac (dm_fu d c 0) nd 0 (dm_i n 11 c) (dm_d nq 2 c) R dI dA cu := by
  obtain ⟨hA, hT, hB⟩ := h
  have a_c := hA c hc
  have b_c := hB c hc
  have hT0 := hT
  simp only [dm_LT] at hT
  subst hw
  have e_t2 := dm_s4_g dm_t2 (f := k) (v := 14) hc
  have e_ow := dm_s4_g dm_ow (f := k) (v := 14) hc
  have e_sh := dm_s4_g dm_sh (f := k) (v := 14) hc
  have e_dt := dm_s4_g dm_dt (f := k) (v := 14) hc
  have q0 := dm_tab7
  simp only [hk] at a_c b_c e_t2 e_ow e_sh e_dt
  have q1 := dm_tab14
  have E_t2 : dm_s4 (fun x => dm_t2 (dm_fu k c 14 x)) = dm_s4 (fun x => dm_t2 (k x)) := by omega
  have E_ow : dm_s4 (fun x => dm_ow (dm_fu k c 14 x)) = dm_s4 (fun x => dm_ow (k x)) := by omega
  have E_sh : dm_s4 (fun x => dm_sh (dm_fu k c 14 x)) + 1 = dm_s4 (fun x => dm_sh (k x)) := by omega
  have E_dt : dm_s4 (fun x => dm_dt (dm_fu k c 14 x)) = dm_s4 (fun x => dm_dt (k x)) := by omega
  have e1 := dm_is (n := n) (t := 11) hc
  try simp (disch := decide) only [dm_in, dm_dn] at e1
  have z1 := dm_idle hT0 c hc
  refine ⟨fun e he => ?_, ?_, fun e he => ?_⟩
  · by_cases hec : e = c
    · rw [hec]
      obtain ⟨x1, x2, x3, x4, x5, x6, x7, x8, x9, x10, x11, x12⟩ := a_c
      simp only [dm_A, dm_iv, dm_dv, dm_fs, and_self, and_true, true_and, if_true, reduceIte, Nat.reduceEqDiff, false_and, and_false, if_false, Nat.add_zero, Nat.sub_zero, hk]
      refine ⟨?_, ?_, ?_, ?_, ?_, ?_, ?_, ?_, ?_, ?_, ?_, ?_⟩ <;> (intros; first | trivial | omega)
    · have a := hA e he
      simpa only [dm_fn hec, dm_iv, dm_dv, hec, and_false, if_false, Nat.add_zero, Nat.sub_zero] using a
  · simp (disch := decide) only [dm_LT, dm_in, dm_dn]
    rw [E_t2]
    by_cases hRc : R = c
    · rw [hRc, dm_fs]; rw [hRc] at hT; exact dm_nT_sp hT (by omega) (by omega) (by omega)
    · rw [dm_fn hRc]; exact dm_nT_sp hT (by omega) (by omega) (by omega)
  · try simp (disch := decide) only [dm_in, dm_dn]
    by_cases hec : e = c
    · rw [hec, dm_fs, dm_fs, E_t2, (dm_T_idle hT0).1]
      exact ⟨fun _ => by omega, fun z => absurd z (by decide), fun z => absurd z (by decide)⟩
    · rw [dm_fn hec, dm_fn hec, E_t2]
      exact hB e he
theorem dm_p_sp7 (h : dm_L0 k gr ac d nd aw n nq R dI dA cu) (hc : c < 4) (hn : 1 ≤ nq 2 c) (hw : aw = 0) (hk : k c = 7) : dm_phi (dm_i n 11 c) (dm_d nq 2 c) gr + 0 ≤ dm_phi n nq gr + 0 := by
  have e1 := dm_is (n := n) (t := 11) hc
  have e2 := dm_ds (n := nq) (t := 2) hc hn
  try simp (disch := decide) only [dm_in, dm_dn] at e1 e2
  simp (disch := decide) only [dm_phi, dm_in, dm_dn]
  omega
theorem dm_t_sp8 (h : dm_L0 k gr ac d nd aw n nq R dI dA cu) (hc : c < 4) (hn : 1 ≤ nq 2 c) (hw : aw = 0) (hk : k c = 8) :
    dm_L0 (dm_fu k c 15) gr ac (dm_fu d c 0) nd 0 (dm_i n 11 c) (dm_d nq 2 c) R dI dA cu := by
  obtain ⟨hA, hT, hB⟩ := h
  have a_c := hA c hc
  have b_c := hB c hc
  have hT0 := hT
  simp only [dm_LT] at hT
  subst hw
  have e_t2 := dm_s4_g dm_t2 (f := k) (v := 15) hc
  have e_ow := dm_s4_g dm_ow (f := k) (v := 15) hc
  have e_sh := dm_s4_g dm_sh (f := k) (v := 15) hc
  have e_dt := dm_s4_g dm_dt (f := k) (v := 15) hc
  have q0 := dm_tab8
  simp only [hk] at a_c b_c e_t2 e_ow e_sh e_dt
  have q1 := dm_tab15
  have E_t2 : dm_s4 (fun x => dm_t2 (dm_fu k c 15 x)) = dm_s4 (fun x => dm_t2 (k x)) := by omega
  have E_ow : dm_s4 (fun x => dm_ow (dm_fu k c 15 x)) + 1 = dm_s4 (fun x => dm_ow (k x)) := by omega
  have E_sh : dm_s4 (fun x => dm_sh (dm_fu k c 15 x)) = dm_s4 (fun x => dm_sh (k x)) := by omega
  have E_dt : dm_s4 (fun x => dm_dt (dm_fu k c 15 x)) = dm_s4 (fun x => dm_dt (k x)) := by omega
  have e1 := dm_is (n := n) (t := 11) hc
  try simp (disch := decide) only [dm_in, dm_dn] at e1
  have z1 := dm_idle hT0 c hc
  refine ⟨fun e he => ?_, ?_, fun e he => ?_⟩
  · by_cases hec : e = c
    · rw [hec]
      obtain ⟨x1, x2, x3, x4, x5, x6, x7, x8, x9, x10, x11, x12⟩ := a_c
      simp only [dm_A, dm_iv, dm_dv, dm_fs, and_self, and_true, true_and, if_true, reduceIte, Nat.reduceEqDiff, false_and, and_false, if_false, Nat.add_zero, Nat.sub_zero, hk]
      refine ⟨?_, ?_, ?_, ?_, ?_, ?_, ?_, ?_, ?_, ?_, ?_, ?_⟩ <;> (intros; first | trivial | omega)
    · have a := hA e he
      simpa only [dm_fn hec, dm_iv, dm_dv, hec, and_false, if_false, Nat.add_zero, Nat.sub_zero] using a
  · simp (disch := decide) only [dm_LT, dm_in, dm_dn]
    rw [E_t2]
    by_cases hRc : R = c
    · rw [hRc, dm_fs]; rw [hRc] at hT; exact dm_nT_sp hT (by omega) (by omega) (by omega)
    · rw [dm_fn hRc]; exact dm_nT_sp hT (by omega) (by omega) (by omega)
  · try simp (disch := decide) only [dm_in, dm_dn]
    by_cases hec : e = c
    · rw [hec, dm_fs, dm_fs, E_t2, (dm_T_idle hT0).1]
      exact ⟨fun _ => by omega, fun z => absurd z (by decide), fun z => absurd z (by decide)⟩
    · rw [dm_fn hec, dm_fn hec, E_t2]
      exact hB e he
theorem dm_p_sp8 (h : dm_L0 k gr ac d nd aw n nq R dI dA cu) (hc : c < 4) (hn : 1 ≤ nq 2 c) (hw : aw = 0) (hk : k c = 8) : dm_phi (dm_i n 11 c) (dm_d nq 2 c) gr + 0 ≤ dm_phi n nq gr + 0 := by
  have e1 := dm_is (n := n) (t := 11) hc
  have e2 := dm_ds (n := nq) (t := 2) hc hn
  try simp (disch := decide) only [dm_in, dm_dn] at e1 e2
  simp (disch := decide) only [dm_phi, dm_in, dm_dn]
  omega
theorem dm_t_sp9 (h : dm_L0 k gr ac d nd aw n nq R dI dA cu) (hc : c < 4) (hn : 1 ≤ nq 2 c) (hw : aw = 0) (hk : k c = 9) :
    dm_L0 (dm_fu k c 16) gr ac (dm_fu d c 0) nd 0 (dm_i n 11 c) (dm_d nq 2 c) R dI dA cu := by
  obtain ⟨hA, hT, hB⟩ := h
  have a_c := hA c hc
  have b_c := hB c hc
  have hT0 := hT
  simp only [dm_LT] at hT
  subst hw
  have e_t2 := dm_s4_g dm_t2 (f := k) (v := 16) hc
  have e_ow := dm_s4_g dm_ow (f := k) (v := 16) hc
  have e_sh := dm_s4_g dm_sh (f := k) (v := 16) hc
  have e_dt := dm_s4_g dm_dt (f := k) (v := 16) hc
  have q0 := dm_tab9
  simp only [hk] at a_c b_c e_t2 e_ow e_sh e_dt
  have q1 := dm_tab16
  have E_t2 : dm_s4 (fun x => dm_t2 (dm_fu k c 16 x)) = dm_s4 (fun x => dm_t2 (k x)) := by omega
  have E_ow : dm_s4 (fun x => dm_ow (dm_fu k c 16 x)) + 1 = dm_s4 (fun x => dm_ow (k x)) := by omega
  have E_sh : dm_s4 (fun x => dm_sh (dm_fu k c 16 x)) = dm_s4 (fun x => dm_sh (k x)) := by omega
  have E_dt : dm_s4 (fun x => dm_dt (dm_fu k c 16 x)) + 1 = dm_s4 (fun x => dm_dt (k x)) := by omega
  have e1 := dm_is (n := n) (t := 11) hc
  try simp (disch := decide) only [dm_in, dm_dn] at e1
  have z1 := dm_idle hT0 c hc
  refine ⟨fun e he => ?_, ?_, fun e he => ?_⟩
  · by_cases hec : e = c
    · rw [hec]
      obtain ⟨x1, x2, x3, x4, x5, x6, x7, x8, x9, x10, x11, x12⟩ := a_c
      simp only [dm_A, dm_iv, dm_dv, dm_fs, and_self, and_true, true_and, if_true, reduceIte, Nat.reduceEqDiff, false_and, and_false, if_false, Nat.add_zero, Nat.sub_zero, hk]
      refine ⟨?_, ?_, ?_, ?_, ?_, ?_, ?_, ?_, ?_, ?_, ?_, ?_⟩ <;> (intros; first | trivial | omega)
    · have a := hA e he
      simpa only [dm_fn hec, dm_iv, dm_dv, hec, and_false, if_false, Nat.add_zero, Nat.sub_zero] using a
  · simp (disch := decide) only [dm_LT, dm_in, dm_dn]
    rw [E_t2]
    by_cases hRc : R = c
    · rw [hRc, dm_fs]; rw [hRc] at hT; exact dm_nT_sp hT (by omega) (by omega) (by omega)
    · rw [dm_fn hRc]; exact dm_nT_sp hT (by omega) (by omega) (by omega)
  · try simp (disch := decide) only [dm_in, dm_dn]
    by_cases hec : e = c
    · rw [hec, dm_fs, dm_fs, E_t2, (dm_T_idle hT0).1]
      exact ⟨fun _ => by omega, fun z => absurd z (by decide), fun z => absurd z (by decide)⟩
    · rw [dm_fn hec, dm_fn hec, E_t2]
      exact hB e he
theorem dm_p_sp9 (h : dm_L0 k gr ac d nd aw n nq R dI dA cu) (hc : c < 4) (hn : 1 ≤ nq 2 c) (hw : aw = 0) (hk : k c = 9) : dm_phi (dm_i n 11 c) (dm_d nq 2 c) gr + 0 ≤ dm_phi n nq gr + 0 := by
  have e1 := dm_is (n := n) (t := 11) hc
  have e2 := dm_ds (n := nq) (t := 2) hc hn
  try simp (disch := decide) only [dm_in, dm_dn] at e1 e2
  simp (disch := decide) only [dm_phi, dm_in, dm_dn]
  omega
theorem dm_t_sp10 (h : dm_L0 k gr ac d nd aw n nq R dI dA cu) (hc : c < 4) (hn : 1 ≤ nq 2 c) (hw : aw = 0) (hk : k c = 10) :
    dm_L0 (dm_fu k c 17) gr ac (dm_fu d c 0) nd 0 (dm_i n 11 c) (dm_d nq 2 c) R dI dA cu := by
  obtain ⟨hA, hT, hB⟩ := h
  have a_c := hA c hc
  have b_c := hB c hc
  have hT0 := hT
  simp only [dm_LT] at hT
  subst hw
  have e_t2 := dm_s4_g dm_t2 (f := k) (v := 17) hc
  have e_ow := dm_s4_g dm_ow (f := k) (v := 17) hc
  have e_sh := dm_s4_g dm_sh (f := k) (v := 17) hc
  have e_dt := dm_s4_g dm_dt (f := k) (v := 17) hc
  have q0 := dm_tab10
  simp only [hk] at a_c b_c e_t2 e_ow e_sh e_dt
  have q1 := dm_tab17
  have E_t2 : dm_s4 (fun x => dm_t2 (dm_fu k c 17 x)) = dm_s4 (fun x => dm_t2 (k x)) := by omega
  have E_ow : dm_s4 (fun x => dm_ow (dm_fu k c 17 x)) = dm_s4 (fun x => dm_ow (k x)) := by omega
  have E_sh : dm_s4 (fun x => dm_sh (dm_fu k c 17 x)) = dm_s4 (fun x => dm_sh (k x)) := by omega
  have E_dt : dm_s4 (fun x => dm_dt (dm_fu k c 17 x)) = dm_s4 (fun x => dm_dt (k x)) := by omega
  have e1 := dm_is (n := n) (t := 11) hc
  try simp (disch := decide) only [dm_in, dm_dn] at e1
  have z1 := dm_idle hT0 c hc
  refine ⟨fun e he => ?_, ?_, fun e he => ?_⟩
  · by_cases hec : e = c
    · rw [hec]
      obtain ⟨x1, x2, x3, x4, x5, x6, x7, x8, x9, x10, x11, x12⟩ := a_c
      simp only [dm_A, dm_iv, dm_dv, dm_fs, and_self, and_true, true_and, if_true, reduceIte, Nat.reduceEqDiff, false_and, and_false, if_false, Nat.add_zero, Nat.sub_zero, hk]
      refine ⟨?_, ?_, ?_, ?_, ?_, ?_, ?_, ?_, ?_, ?_, ?_, ?_⟩ <;> (intros; first | trivial | omega)
    · have a := hA e he
      simpa only [dm_fn hec, dm_iv, dm_dv, hec, and_false, if_false, Nat.add_zero, Nat.sub_zero] using a
  · simp (disch := decide) only [dm_LT, dm_in, dm_dn]
    rw [E_t2]
    by_cases hRc : R = c
    · rw [hRc, dm_fs]; rw [hRc] at hT; exact dm_nT_sp hT (by omega) (by omega) (by omega)
    · rw [dm_fn hRc]; exact dm_nT_sp hT (by omega) (by omega) (by omega)
  · try simp (disch := decide) only [dm_in, dm_dn]
    by_cases hec : e = c
    · rw [hec, dm_fs, dm_fs, E_t2, (dm_T_idle hT0).1]
      exact ⟨fun _ => by omega, fun z => absurd z (by decide), fun z => absurd z (by decide)⟩
    · rw [dm_fn hec, dm_fn hec, E_t2]
      exact hB e he
theorem dm_p_sp10 (h : dm_L0 k gr ac d nd aw n nq R dI dA cu) (hc : c < 4) (hn : 1 ≤ nq 2 c) (hw : aw = 0) (hk : k c = 10) : dm_phi (dm_i n 11 c) (dm_d nq 2 c) gr + 0 ≤ dm_phi n nq gr + 0 := by
  have e1 := dm_is (n := n) (t := 11) hc
  have e2 := dm_ds (n := nq) (t := 2) hc hn
  try simp (disch := decide) only [dm_in, dm_dn] at e1 e2
  simp (disch := decide) only [dm_phi, dm_in, dm_dn]
  omega
end
end
section
section
variable {k gr d nd : Nat → Nat} {ac : Nat → Int} {aw : Nat} {n nq : Nat → Nat → Nat} {R dI dA cu c o : Nat}
theorem dm_t_done1 (h : dm_L0 k gr ac d nd aw n nq R dI dA cu) (hc : c < 4) (hn : 1 ≤ n 3 c) (hw : 2 ≤ aw) :
    dm_L0 k gr ac d nd (aw - 1) (dm_d n 3 c) nq R dI dA cu := by
  obtain ⟨hA, hT, hB⟩ := h
  have a_c := hA c hc
  have b_c := hB c hc
  have hT0 := hT
  simp only [dm_LT] at hT
  rw [← dm_ds (n := n) (t := 3) hc hn] at hT
  have e1 := dm_ds (n := n) (t := 3) hc hn
  try simp (disch := decide) only [dm_in, dm_dn] at e1
  refine ⟨fun e he => ?_, ?_, fun e he => ?_⟩
  · by_cases hec : e = c
    · rw [hec]
      obtain ⟨x1, x2, x3, x4, x5, x6, x7, x8, x9, x10, x11, x12⟩ := a_c
      simp only [dm_A, dm_iv, dm_dv, dm_fs, and_self, and_true, true_and, if_true, reduceIte, Nat.reduceEqDiff, false_and, and_false, if_false, Nat.add_zero, Nat.sub_zero]
      refine ⟨?_, ?_, ?_, ?_, ?_, ?_, ?_, ?_, ?_, ?_, ?_, ?_⟩ <;> (intros; first | trivial | omega)
    · have a := hA e he
      simpa only [dm_fn hec, dm_iv, dm_dv, hec, and_false, if_false, Nat.add_zero, Nat.sub_zero] using a
  · simp (disch := decide) only [dm_LT, dm_in, dm_dn]
    exact (dm_nT_done hT).2.2
  · try simp (disch := decide) only [dm_in, dm_dn]
    by_cases hec : e = c
    · have b := hB e he
      refine ⟨fun z => absurd z (by omega), fun _ => b.2.1 (by omega), b.2.2⟩
    · have b := hB e he
      exact ⟨fun z => absurd z (by omega), fun _ => b.2.1 (by omega), b.2.2⟩
theorem dm_p_done1 (h : dm_L0 k gr ac d nd aw n nq R dI dA cu) (hc : c < 4) (hn : 1 ≤ n 3 c) (hw : 2 ≤ aw) : dm_phi (dm_d n 3 c) nq gr + 1 ≤ dm_phi n nq gr + 0 := by
  have e1 := dm_ds (n := n) (t := 3) hc hn
  try simp (disch := decide) only [dm_in, dm_dn] at e1
  simp (disch := decide) only [dm_phi, dm_in, dm_dn]
  omega
theorem dm_t_done0 (h : dm_L0 k gr ac d nd aw n nq R dI dA cu) (hc : c < 4) (hn : 1 ≤ n 3 c) (hw : aw ≤ 1) :
    dm_L0 k gr ac nd nd 0 (dm_d n 3 c) nq R dI dA cu := by
  obtain ⟨hA, hT, hB⟩ := h
  have a_c := hA c hc
  have b_c := hB c hc
  have hT0 := hT
  simp only [dm_LT] at hT
  rw [← dm_ds (n := n) (t := 3) hc hn] at hT
  have e1 := dm_ds (n := n) (t := 3) hc hn
  try simp (disch := decide) only [dm_in, dm_dn] at e1
  refine ⟨fun e he => ?_, ?_, fun e he => ?_⟩
  · by_cases hec : e = c
    · rw [hec]
      obtain ⟨x1, x2, x3, x4, x5, x6, x7, x8, x9, x10, x11, x12⟩ := a_c
      simp only [dm_A, dm_iv, dm_dv, dm_fs, and_self, and_true, true_and, if_true, reduceIte, Nat.reduceEqDiff, false_and, and_false, if_false, Nat.add_zero, Nat.sub_zero]
      refine ⟨?_, ?_, ?_, ?_, ?_, ?_, ?_, ?_, ?_, ?_, ?_, ?_⟩ <;> (intros; first | trivial | omega)
    · have a := hA e he
      simpa only [dm_fn hec, dm_iv, dm_dv, hec, and_false, if_false, Nat.add_zero, Nat.sub_zero] using a
  · simp (disch := decide) only [dm_LT, dm_in, dm_dn]
    have q := dm_nT_done hT
    have : aw - 1 = 0 := by omega
    rw [this] at q
    exact q.2.2
  · try simp (disch := decide) only [dm_in, dm_dn]
    by_cases hec : e = c
    · have b := hB e he
      have q := dm_nT_done hT
      rw [q.2.1] at b ⊢
      exact ⟨fun _ => b.2.1 (by omega), fun z => absurd z (by decide), fun z => absurd z (by decide)⟩
    · have b := hB e he
      have q := dm_nT_done hT
      rw [q.2.1] at b ⊢
      exact ⟨fun _ => b.2.1 (by omega), fun z => absurd z (by decide), fun z => absurd z (by decide)⟩
theorem dm_p_done0 (h : dm_L0 k gr ac d nd aw n nq R dI dA cu) (hc : c < 4) (hn : 1 ≤ n 3 c) (hw : aw ≤ 1) : dm_phi (dm_d n 3 c) nq gr + 1 ≤ dm_phi n nq gr + 0 := by
  have e1 := dm_ds (n := n) (t := 3) hc hn
  try simp (disch := decide) only [dm_in, dm_dn] at e1
  simp (disch := decide) only [dm_phi, dm_in, dm_dn]
  omega
theorem dm_t_copy1 (h : dm_L0 k gr ac d nd aw n nq R dI dA cu) (hc : c < 4) (hn : 1 ≤ n 4 c) (hw : 2 ≤ aw) :
    dm_L0 k gr ac d nd (aw - 1) (dm_d n 4 c) nq R dI dA cu := by
  obtain ⟨hA, hT, hB⟩ := h
  have a_c := hA c hc
  have b_c := hB c hc
  have hT0 := hT
  simp only [dm_LT] at hT
  rw [← dm_ds (n := n) (t := 4) hc hn] at hT
  have e1 := dm_ds (n := n) (t := 4) hc hn
  try simp (disch := decide) only [dm_in, dm_dn] at e1
  refine ⟨fun e he => ?_, ?_, fun e he => ?_⟩
  · by_cases hec : e = c
    · rw [hec]
      obtain ⟨x1, x2, x3, x4, x5, x6, x7, x8, x9, x10, x11, x12⟩ := a_c
      simp only [dm_A, dm_iv, dm_dv, dm_fs, and_self, and_true, true_and, if_true, reduceIte, Nat.reduceEqDiff, false_and, and_false, if_false, Nat.add_zero, Nat.sub_zero]
      refine ⟨?_, ?_, ?_, ?_, ?_, ?_, ?_, ?_, ?_, ?_, ?_, ?_⟩ <;> (intros; first | trivial | omega)
    · have a := hA e he
      simpa only [dm_fn hec, dm_iv, dm_dv, hec, and_false, if_false, Nat.add_zero, Nat.sub_zero] using a
  · simp (disch := decide) only [dm_LT, dm_in, dm_dn]
    exact (dm_nT_copy hT).2
  · try simp (disch := decide) only [dm_in, dm_dn]
    by_cases hec : e = c
    · have b := hB e he
      exact ⟨fun z => absurd z (by omega), fun _ => b.2.1 (by omega), b.2.2⟩
    · have b := hB e he
      exact ⟨fun z => absurd z (by omega), fun _ => b.2.1 (by omega), b.2.2⟩
theorem dm_p_copy1 (h : dm_L0 k gr ac d nd aw n nq R dI dA cu) (hc : c < 4) (hn : 1 ≤ n 4 c) (hw : 2 ≤ aw) : dm_phi (dm_d n 4 c) nq gr + 1 ≤ dm_phi n nq gr + 0 := by
  have e1 := dm_ds (n := n) (t := 4) hc hn
  try simp (disch := decide) only [dm_in, dm_dn] at e1
  simp (disch := decide) only [dm_phi, dm_in, dm_dn]
  omega
theorem dm_t_copy0 (h : dm_L0 k gr ac d nd aw n nq R dI dA cu) (hc : c < 4) (hn : 1 ≤ n 4 c) (hw : aw ≤ 1) :
    dm_L0 k gr ac nd nd 0 (dm_d n 4 c) nq R dI dA cu := by
  obtain ⟨hA, hT, hB⟩ := h
  have a_c := hA c hc
  have b_c := hB c hc
  have hT0 := hT
  simp only [dm_LT] at hT
  rw [← dm_ds (n := n) (t := 4) hc hn] at hT
  have e1 := dm_ds (n := n) (t := 4) hc hn
  try simp (disch := decide) only [dm_in, dm_dn] at e1
  refine ⟨fun e he => ?_, ?_, fun e he => ?_⟩
  · by_cases hec : e = c
    · rw [hec]
      obtain ⟨x1, x2, x3, x4, x5, x6, x7, x8, x9, x10, x11, x12⟩ := a_c
      simp only [dm_A, dm_iv, dm_dv, dm_fs, and_self, and_true, true_and, if_true, reduceIte, Nat.reduceEqDiff, false_and, and_false, if_false, Nat.add_zero, Nat.sub_zero]
      refine ⟨?_, ?_, ?_, ?_, ?_, ?_, ?_, ?_, ?_, ?_, ?_, ?_⟩ <;> (intros; first | trivial | omega)
    · have a := hA e he
      simpa only [dm_fn hec, dm_iv, dm_dv, hec, and_false, if_false, Nat.add_zero, Nat.sub_zero] using a
  · simp (disch := decide) only [dm_LT, dm_in, dm_dn]
    have q := dm_nT_copy hT
    have : aw - 1 = 0 := by omega
    rw [this] at q
    exact q.2
  · try simp (disch := decide) only [dm_in, dm_dn]
    by_cases hec : e = c
    · have b := hB e he
      have q := (dm_nT_copy hT).1
      have q2 : dm_s4 (fun c => dm_t2 (k c)) = 0 := by omega
      rw [q2] at b ⊢
      exact ⟨fun _ => b.2.1 (by omega), fun z => absurd z (by decide), fun z => absurd z (by decide)⟩
    · have b := hB e he
      have q := (dm_nT_copy hT).1
      have q2 : dm_s4 (fun c => dm_t2 (k c)) = 0 := by omega
      rw [q2] at b ⊢
      exact ⟨fun _ => b.2.1 (by omega), fun z => absurd z (by decide), fun z => absurd z (by decide)⟩
theorem dm_p_copy0 (h : dm_L0 k gr ac d nd aw n nq R dI dA cu) (hc : c < 4) (hn : 1 ≤ n 4 c) (hw : aw ≤ 1) : dm_phi (dm_d n 4 c) nq gr + 1 ≤ dm_phi n nq gr + 0 := by
  have e1 := dm_ds (n := n) (t := 4) hc hn
  try simp (disch := decide) only [dm_in, dm_dn] at e1
  simp (disch := decide) only [dm_phi, dm_in, dm_dn]
  omega
theorem dm_t_data1_11 (h : dm_L0 k gr ac d nd aw n nq R dI dA cu) (hc : c < 4) (hn : 1 ≤ n 9 c) (hz : (dA : Int) + ac c = 0) (hd : dI = 1) (hk : k c = 11) :
    dm_L0 (dm_fu k c 1) gr (dm_fu ac c 0) d nd aw (dm_i (dm_d n 9 c) 3 c) nq R dI dA cu := by
  obtain ⟨hA, hT, hB⟩ := h
  have a_c := hA c hc
  have b_c := hB c hc
  have hT0 := hT
  simp only [dm_LT] at hT
  have hr2 : dm_t2 (k c) = 1 := by have := a_c.2.2.2.2.2.2.1; have h1 : dm_t2 (k c) ≤ 1 := by { rw [dm_t2]; split <;> omega }; omega
  have hcR : c = R := a_c.2.2.2.2.2.1 hr2
  subst hcR
  have hl := dm_s4_le (f := n 9) hc
  have hsr := dm_T_src hT (by omega)
  have hIV : dm_s4 (n 7) = 0 := by have := hT.2.2.2.2.2.2.2.2.2.2.2.2.2.2.2.1 (by omega); omega
  have hdI : dI ≠ 1 → ∀ e, e < 4 → e ≠ c → dm_ro (k e) = 0 := fun h1 e he hne => by
    have b := (hB e he).2.2 hsr.1 h1 (by omega) hne
    have l7 := dm_s4_le (f := n 7) he
    omega
  have hOW : dm_s4 (fun x => dm_ow (k x)) = 0 := by
    have : ¬ dm_s4 (fun x => dm_ow (k x)) = 1 := fun z => by have := (hT.2.2.2.2.2.1 z).2; omega
    have := hT.2.2.2.2.1; omega
  have e_t2 := dm_s4_g dm_t2 (f := k) (v := 1) hc
  have e_ow := dm_s4_g dm_ow (f := k) (v := 1) hc
  have e_sh := dm_s4_g dm_sh (f := k) (v := 1) hc
  have e_dt := dm_s4_g dm_dt (f := k) (v := 1) hc
  have q0 := dm_tab11
  simp only [hk] at a_c b_c e_t2 e_ow e_sh e_dt
  have q1 := dm_tab1
  have E_t2 : dm_s4 (fun x => dm_t2 (dm_fu k c 1 x)) + 1 = dm_s4 (fun x => dm_t2 (k x)) := by omega
  have E_ow : dm_s4 (fun x => dm_ow (dm_fu k c 1 x)) = dm_s4 (fun x => dm_ow (k x)) := by omega
  have E_sh : dm_s4 (fun x => dm_sh (dm_fu k c 1 x)) = dm_s4 (fun x => dm_sh (k x)) + 1 := by omega
  have E_dt : dm_s4 (fun x => dm_dt (dm_fu k c 1 x)) = dm_s4 (fun x => dm_dt (k x)) := by omega
  have e1 := dm_ds (n := n) (t := 9) hc hn
  have e2 := dm_is (n := (dm_d n 9 c)) (t := 3) hc
  try simp (disch := decide) only [dm_in, dm_dn] at e1 e2
  refine ⟨fun e he => ?_, ?_, fun e he => ?_⟩
  · by_cases hec : e = c
    · rw [hec]
      obtain ⟨x1, x2, x3, x4, x5, x6, x7, x8, x9, x10, x11, x12⟩ := a_c
      simp only [dm_A, dm_iv, dm_dv, dm_fs, and_self, and_true, true_and, if_true, reduceIte, Nat.reduceEqDiff, false_and, and_false, if_false, Nat.add_zero, Nat.sub_zero, hk]
      refine ⟨?_, ?_, ?_, ?_, ?_, ?_, ?_, ?_, ?_, ?_, ?_, ?_⟩ <;> (intros; first | trivial | omega)
    · have a := hA e he
      simpa only [dm_fn hec, dm_iv, dm_dv, hec, and_false, if_false, Nat.add_zero, Nat.sub_zero] using a
  · simp (disch := decide) only [dm_LT, dm_in, dm_dn]
    rw [e2, dm_fs, dm_fs]
    rw [← e1] at hT
    have E2 : dm_s4 (fun x => dm_t2 (dm_fu k c 1 x)) = dm_s4 (fun x => dm_t2 (k x)) - 1 := by omega
    rw [E2]
    exact dm_nT_dataC hT hz (fun _ => ⟨E_ow, E_sh, E_dt⟩) (fun z => absurd z (by omega)) (fun z => absurd z (by omega)) (fun z => absurd hd z)
  · try simp (disch := decide) only [dm_in, dm_dn]
    by_cases hec : e = c
    · have b := b_c.2.1 (by have := hT.1; omega)
      rw [hec, dm_fs]
      have hz2 : dm_s4 (fun x => dm_t2 (dm_fu k c 1 x)) = 0 := by omega
      rw [hz2]
      rw [hsr.1] at b
      refine ⟨fun z => absurd z (by have := hT.1; omega), fun _ => ?_, fun z => absurd z (by decide)⟩
      rw [hd, dm_nx1] at b; rw [b, dm_nx0]; simp; rfl
    · have b := (hB e he).2.1 (by have := hT.1; omega)
      rw [dm_fn hec]
      have hz2 : dm_s4 (fun x => dm_t2 (dm_fu k c 1 x)) = 0 := by omega
      rw [hz2]
      rw [hsr.1] at b
      refine ⟨fun z => absurd z (by have := hT.1; omega), fun _ => ?_, fun z => absurd z (by decide)⟩
      rw [hd, dm_nx1, if_neg hec] at b; rw [b, dm_nx0]
      have l1 : dm_ow (k e) ≤ dm_s4 (fun x => dm_ow (k x)) := dm_s4_le (f := fun x => dm_ow (k x)) he
      have l2 : dm_sh (k e) ≤ 1 := by rw [dm_sh]; split <;> omega
      rw [dm_ro]; split <;> omega
theorem dm_p_data1_11 (h : dm_L0 k gr ac d nd aw n nq R dI dA cu) (hc : c < 4) (hn : 1 ≤ n 9 c) (hz : (dA : Int) + ac c = 0) (hd : dI = 1) (hk : k c = 11) : dm_phi (dm_i (dm_d n 9 c) 3 c) nq gr + 1 ≤ dm_phi n nq gr + 0 := by
  have e1 := dm_ds (n := n) (t := 9) hc hn
  have e2 := dm_is (n := (dm_d n 9 c)) (t := 3) hc
  try simp (disch := decide) only [dm_in, dm_dn] at e1 e2
  simp (disch := decide) only [dm_phi, dm_in, dm_dn]
  omega
theorem dm_t_data2_11 (h : dm_L0 k gr ac d nd aw n nq R dI dA cu) (hc : c < 4) (hn : 1 ≤ n 9 c) (hz : (dA : Int) + ac c = 0) (hd : dI = 2) (hk : k c = 11) :
    dm_L0 (dm_fu k c 2) gr (dm_fu ac c 0) d nd aw (dm_i (dm_d n 9 c) 3 c) nq R dI dA cu := by
  obtain ⟨hA, hT, hB⟩ := h
  have a_c := hA c hc
  have b_c := hB c hc
  have hT0 := hT
  simp only [dm_LT] at hT
  have hr2 : dm_t2 (k c) = 1 := by have := a_c.2.2.2.2.2.2.1; have h1 : dm_t2 (k c) ≤ 1 := by { rw [dm_t2]; split <;> omega }; omega
  have hcR : c = R := a_c.2.2.2.2.2.1 hr2
  subst hcR
  have hl := dm_s4_le (f := n 9) hc
  have hsr := dm_T_src hT (by omega)
  have hIV : dm_s4 (n 7) = 0 := by have := hT.2.2.2.2.2.2.2.2.2.2.2.2.2.2.2.1 (by omega); omega
  have hdI : dI ≠ 1 → ∀ e, e < 4 → e ≠ c → dm_ro (k e) = 0 := fun h1 e he hne => by
    have b := (hB e he).2.2 hsr.1 h1 (by omega) hne
    have l7 := dm_s4_le (f := n 7) he
    omega
  have hSH : dm_s4 (fun x => dm_sh (k x)) = 0 := dm_nosh fun e he => by
    by_cases hne : e = c
    · rw [hne, hk]; rfl
    · have := hdI (by omega) e he hne; rw [dm_ro] at this; omega
  have hOW : dm_s4 (fun x => dm_ow (k x)) = 0 := by
    have : ¬ dm_s4 (fun x => dm_ow (k x)) = 1 := fun z => by have := (hT.2.2.2.2.2.1 z).2; omega
    have := hT.2.2.2.2.1; omega
  have e_t2 := dm_s4_g dm_t2 (f := k) (v := 2) hc
  have e_ow := dm_s4_g dm_ow (f := k) (v := 2) hc
  have e_sh := dm_s4_g dm_sh (f := k) (v := 2) hc
  have e_dt := dm_s4_g dm_dt (f := k) (v := 2) hc
  have q0 := dm_tab11
  simp only [hk] at a_c b_c e_t2 e_ow e_sh e_dt
  have q1 := dm_tab2
  have E_t2 : dm_s4 (fun x => dm_t2 (dm_fu k c 2 x)) + 1 = dm_s4 (fun x => dm_t2 (k x)) := by omega
  have E_ow : dm_s4 (fun x => dm_ow (dm_fu k c 2 x)) = dm_s4 (fun x => dm_ow (k x)) + 1 := by omega
  have E_sh : dm_s4 (fun x => dm_sh (dm_fu k c 2 x)) = dm_s4 (fun x => dm_sh (k x)) := by omega
  have E_dt : dm_s4 (fun x => dm_dt (dm_fu k c 2 x)) = dm_s4 (fun x => dm_dt (k x)) := by omega
  have e1 := dm_ds (n := n) (t := 9) hc hn
  have e2 := dm_is (n := (dm_d n 9 c)) (t := 3) hc
  try simp (disch := decide) only [dm_in, dm_dn] at e1 e2
  refine ⟨fun e he => ?_, ?_, fun e he => ?_⟩
  · by_cases hec : e = c
    · rw [hec]
      obtain ⟨x1, x2, x3, x4, x5, x6, x7, x8, x9, x10, x11, x12⟩ := a_c
      simp only [dm_A, dm_iv, dm_dv, dm_fs, and_self, and_true, true_and, if_true, reduceIte, Nat.reduceEqDiff, false_and, and_false, if_false, Nat.add_zero, Nat.sub_zero, hk]
      refine ⟨?_, ?_, ?_, ?_, ?_, ?_, ?_, ?_, ?_, ?_, ?_, ?_⟩ <;> (intros; first | trivial | omega)
    · have a := hA e he
      simpa only [dm_fn hec, dm_iv, dm_dv, hec, and_false, if_false, Nat.add_zero, Nat.sub_zero] using a
  · simp (disch := decide) only [dm_LT, dm_in, dm_dn]
    rw [e2, dm_fs, dm_fs]
    rw [← e1] at hT
    have E2 : dm_s4 (fun x => dm_t2 (dm_fu k c 2 x)) = dm_s4 (fun x => dm_t2 (k x)) - 1 := by omega
    rw [E2]
    exact dm_nT_dataC hT hz (fun z => absurd z (by omega)) (fun _ => ⟨E_ow, E_sh, E_dt⟩) (fun z => absurd z (by omega)) (fun _ => hSH)
  · try simp (disch := decide) only [dm_in, dm_dn]
    by_cases hec : e = c
    · have b := b_c.2.1 (by have := hT.1; omega)
      rw [hec, dm_fs]
      have hz2 : dm_s4 (fun x => dm_t2 (dm_fu k c 2 x)) = 0 := by omega
      rw [hz2]
      rw [hsr.1] at b
      refine ⟨fun z => absurd z (by have := hT.1; omega), fun _ => ?_, fun z => absurd z (by decide)⟩
      rw [dm_nx2 (by omega)] at b; rw [b, dm_nx0]; simp; rfl
    · have b := (hB e he).2.1 (by have := hT.1; omega)
      rw [dm_fn hec]
      have hz2 : dm_s4 (fun x => dm_t2 (dm_fu k c 2 x)) = 0 := by omega
      rw [hz2]
      rw [hsr.1] at b
      refine ⟨fun z => absurd z (by have := hT.1; omega), fun _ => ?_, fun z => absurd z (by decide)⟩
      rw [dm_nx2 (by omega), if_neg hec] at b; rw [b, dm_nx0]; exact (hdI (by omega) e he hec).symm
theorem dm_p_data2_11 (h : dm_L0 k gr ac d nd aw n nq R dI dA cu) (hc : c < 4) (hn : 1 ≤ n 9 c) (hz : (dA : Int) + ac c = 0) (hd : dI = 2) (hk : k c = 11) : dm_phi (dm_i (dm_d n 9 c) 3 c) nq gr + 1 ≤ dm_phi n nq gr + 0 := by
  have e1 := dm_ds (n := n) (t := 9) hc hn
  have e2 := dm_is (n := (dm_d n 9 c)) (t := 3) hc
  try simp (disch := decide) only [dm_in, dm_dn] at e1 e2
  simp (disch := decide) only [dm_phi, dm_in, dm_dn]
  omega
theorem dm_t_data2_12 (h : dm_L0 k gr ac d nd aw n nq R dI dA cu) (hc : c < 4) (hn : 1 ≤ n 9 c) (hz : (dA : Int) + ac c = 0) (hd : dI = 2) (hk : k c = 12) :
    dm_L0 (dm_fu k c 2) gr (dm_fu ac c 0) d nd aw (dm_i (dm_d n 9 c) 3 c) nq R dI dA cu := by
  obtain ⟨hA, hT, hB⟩ := h
  have a_c := hA c hc
  have b_c := hB c hc
  have hT0 := hT
  simp only [dm_LT] at hT
  have hr2 : dm_t2 (k c) = 1 := by have := a_c.2.2.2.2.2.2.1; have h1 : dm_t2 (k c) ≤ 1 := by { rw [dm_t2]; split <;> omega }; omega
  have hcR : c = R := a_c.2.2.2.2.2.1 hr2
  subst hcR
  have hl := dm_s4_le (f := n 9) hc
  have hsr := dm_T_src hT (by omega)
  have hIV : dm_s4 (n 7) = 0 := by have := hT.2.2.2.2.2.2.2.2.2.2.2.2.2.2.2.1 (by omega); omega
  have hdI : dI ≠ 1 → ∀ e, e < 4 → e ≠ c → dm_ro (k e) = 0 := fun h1 e he hne => by
    have b := (hB e he).2.2 hsr.1 h1 (by omega) hne
    have l7 := dm_s4_le (f := n 7) he
    omega
  have hSH : dm_s4 (fun x => dm_sh (k x)) = 0 := dm_nosh fun e he => by
    by_cases hne : e = c
    · rw [hne, hk]; rfl
    · have := hdI (by omega) e he hne; rw [dm_ro] at this; omega
  have hOW : dm_s4 (fun x => dm_ow (k x)) = 0 := by
    have : ¬ dm_s4 (fun x => dm_ow (k x)) = 1 := fun z => by have := (hT.2.2.2.2.2.1 z).2; omega
    have := hT.2.2.2.2.1; omega
  have e_t2 := dm_s4_g dm_t2 (f := k) (v := 2) hc
  have e_ow := dm_s4_g dm_ow (f := k) (v := 2) hc
  have e_sh := dm_s4_g dm_sh (f := k) (v := 2) hc
  have e_dt := dm_s4_g dm_dt (f := k) (v := 2) hc
  have q0 := dm_tab12
  simp only [hk] at a_c b_c e_t2 e_ow e_sh e_dt
  have q1 := dm_tab2
  have E_t2 : dm_s4 (fun x => dm_t2 (dm_fu k c 2 x)) + 1 = dm_s4 (fun x => dm_t2 (k x)) := by omega
  have E_ow : dm_s4 (fun x => dm_ow (dm_fu k c 2 x)) = dm_s4 (fun x => dm_ow (k x)) + 1 := by omega
  have E_sh : dm_s4 (fun x => dm_sh (dm_fu k c 2 x)) = dm_s4 (fun x => dm_sh (k x)) := by omega
  have E_dt : dm_s4 (fun x => dm_dt (dm_fu k c 2 x)) = dm_s4 (fun x => dm_dt (k x)) := by omega
  have e1 := dm_ds (n := n) (t := 9) hc hn
  have e2 := dm_is (n := (dm_d n 9 c)) (t := 3) hc
  try simp (disch := decide) only [dm_in, dm_dn] at e1 e2
  refine ⟨fun e he => ?_, ?_, fun e he => ?_⟩
  · by_cases hec : e = c
    · rw [hec]
      obtain ⟨x1, x2, x3, x4, x5, x6, x7, x8, x9, x10, x11, x12⟩ := a_c
      simp only [dm_A, dm_iv, dm_dv, dm_fs, and_self, and_true, true_and, if_true, reduceIte, Nat.reduceEqDiff, false_and, and_false, if_false, Nat.add_zero, Nat.sub_zero, hk]
      refine ⟨?_, ?_, ?_, ?_, ?_, ?_, ?_, ?_, ?_, ?_, ?_, ?_⟩ <;> (intros; first | trivial | omega)
    · have a := hA e he
      simpa only [dm_fn hec, dm_iv, dm_dv, hec, and_false, if_false, Nat.add_zero, Nat.sub_zero] using a
  · simp (disch := decide) only [dm_LT, dm_in, dm_dn]
    rw [e2, dm_fs, dm_fs]
    rw [← e1] at hT
    have E2 : dm_s4 (fun x => dm_t2 (dm_fu k c 2 x)) = dm_s4 (fun x => dm_t2 (k x)) - 1 := by omega
    rw [E2]
    exact dm_nT_dataC hT hz (fun z => absurd z (by omega)) (fun _ => ⟨E_ow, E_sh, E_dt⟩) (fun z => absurd z (by omega)) (fun _ => hSH)
  · try simp (disch := decide) only [dm_in, dm_dn]
    by_cases hec : e = c
    · have b := b_c.2.1 (by have := hT.1; omega)
      rw [hec, dm_fs]
      have hz2 : dm_s4 (fun x => dm_t2 (dm_fu k c 2 x)) = 0 := by omega
      rw [hz2]
      rw [hsr.1] at b
      refine ⟨fun z => absurd z (by have := hT.1; omega), fun _ => ?_, fun z => absurd z (by decide)⟩
      rw [dm_nx2 (by omega)] at b; rw [b, dm_nx0]; simp; rfl
    · have b := (hB e he).2.1 (by have := hT.1; omega)
      rw [dm_fn hec]
      have hz2 : dm_s4 (fun x => dm_t2 (dm_fu k c 2 x)) = 0 := by omega
      rw [hz2]
      rw [hsr.1] at b
      refine ⟨fun z => absurd z (by have := hT.1; omega), fun _ => ?_, fun z => absurd z (by decide)⟩
      rw [dm_nx2 (by omega), if_neg hec] at b; rw [b, dm_nx0]; exact (hdI (by omega) e he hec).symm
theorem dm_p_data2_12 (h : dm_L0 k gr ac d nd aw n nq R dI dA cu) (hc : c < 4) (hn : 1 ≤ n 9 c) (hz : (dA : Int) + ac c = 0) (hd : dI = 2) (hk : k c = 12) : dm_phi (dm_i (dm_d n 9 c) 3 c) nq gr + 1 ≤ dm_phi n nq gr + 0 := by
  have e1 := dm_ds (n := n) (t := 9) hc hn
  have e2 := dm_is (n := (dm_d n 9 c)) (t := 3) hc
  try simp (disch := decide) only [dm_in, dm_dn] at e1 e2
  simp (disch := decide) only [dm_phi, dm_in, dm_dn]
  omega
theorem dm_t_data3_11 (h : dm_L0 k gr ac d nd aw n nq R dI dA cu) (hc : c < 4) (hn : 1 ≤ n 9 c) (hz : (dA : Int) + ac c = 0) (hd : dI = 3) (hk : k c = 11) :
    dm_L0 (dm_fu k c 3) gr (dm_fu ac c 0) d nd aw (dm_i (dm_d n 9 c) 3 c) nq R dI dA cu := by
  obtain ⟨hA, hT, hB⟩ := h
  have a_c := hA c hc
  have b_c := hB c hc
  have hT0 := hT
  simp only [dm_LT] at hT
  have hr2 : dm_t2 (k c) = 1 := by have := a_c.2.2.2.2.2.2.1; have h1 : dm_t2 (k c) ≤ 1 := by { rw [dm_t2]; split <;> omega }; omega
  have hcR : c = R := a_c.2.2.2.2.2.1 hr2
  subst hcR
  have hl := dm_s4_le (f := n 9) hc
  have hsr := dm_T_src hT (by omega)
  have hIV : dm_s4 (n 7) = 0 := by have := hT.2.2.2.2.2.2.2.2.2.2.2.2.2.2.2.1 (by omega); omega
  have hdI : dI ≠ 1 → ∀ e, e < 4 → e ≠ c → dm_ro (k e) = 0 := fun h1 e he hne => by
    have b := (hB e he).2.2 hsr.1 h1 (by omega) hne
    have l7 := dm_s4_le (f := n 7) he
    omega
  have hSH : dm_s4 (fun x => dm_sh (k x)) = 0 := dm_nosh fun e he => by
    by_cases hne : e = c
    · rw [hne, hk]; rfl
    · have := hdI (by omega) e he hne; rw [dm_ro] at this; omega
  have hOW : dm_s4 (fun x => dm_ow (k x)) = 0 := by
    have : ¬ dm_s4 (fun x => dm_ow (k x)) = 1 := fun z => by have := (hT.2.2.2.2.2.1 z).2; omega
    have := hT.2.2.2.2.1; omega
  have e_t2 := dm_s4_g dm_t2 (f := k) (v := 3) hc
  have e_ow := dm_s4_g dm_ow (f := k) (v := 3) hc
  have e_sh := dm_s4_g dm_sh (f := k) (v := 3) hc
  have e_dt := dm_s4_g dm_dt (f := k) (v := 3) hc
  have q0 := dm_tab11
  simp only [hk] at a_c b_c e_t2 e_ow e_sh e_dt
  have q1 := dm_tab3
  have E_t2 : dm_s4 (fun x => dm_t2 (dm_fu k c 3 x)) + 1 = dm_s4 (fun x => dm_t2 (k x)) := by omega
  have E_ow : dm_s4 (fun x => dm_ow (dm_fu k c 3 x)) = dm_s4 (fun x => dm_ow (k x)) + 1 := by omega
  have E_sh : dm_s4 (fun x => dm_sh (dm_fu k c 3 x)) = dm_s4 (fun x => dm_sh (k x)) := by omega
  have E_dt : dm_s4 (fun x => dm_dt (dm_fu k c 3 x)) = dm_s4 (fun x => dm_dt (k x)) + 1 := by omega
  have e1 := dm_ds (n := n) (t := 9) hc hn
  have e2 := dm_is (n := (dm_d n 9 c)) (t := 3) hc
  try simp (disch := decide) only [dm_in, dm_dn] at e1 e2
  refine ⟨fun e he => ?_, ?_, fun e he => ?_⟩
  · by_cases hec : e = c
    · rw [hec]
      obtain ⟨x1, x2, x3, x4, x5, x6, x7, x8, x9, x10, x11, x12⟩ := a_c
      simp only [dm_A, dm_iv, dm_dv, dm_fs, and_self, and_true, true_and, if_true, reduceIte, Nat.reduceEqDiff, false_and, and_false, if_false, Nat.add_zero, Nat.sub_zero, hk]
      refine ⟨?_, ?_, ?_, ?_, ?_, ?_, ?_, ?_, ?_, ?_, ?_, ?_⟩ <;> (intros; first | trivial | omega)
    · have a := hA e he
      simpa only [dm_fn hec, dm_iv, dm_dv, hec, and_false, if_false, Nat.add_zero, Nat.sub_zero] using a
  · simp (disch := decide) only [dm_LT, dm_in, dm_dn]
    rw [e2, dm_fs, dm_fs]
    rw [← e1] at hT
    have E2 : dm_s4 (fun x => dm_t2 (dm_fu k c 3 x)) = dm_s4 (fun x => dm_t2 (k x)) - 1 := by omega
    rw [E2]
    exact dm_nT_dataC hT hz (fun z => absurd z (by omega)) (fun z => absurd z (by omega)) (fun _ => ⟨E_ow, E_sh, E_dt⟩) (fun _ => hSH)
  · try simp (disch := decide) only [dm_in, dm_dn]
    by_cases hec : e = c
    · have b := b_c.2.1 (by have := hT.1; omega)
      rw [hec, dm_fs]
      have hz2 : dm_s4 (fun x => dm_t2 (dm_fu k c 3 x)) = 0 := by omega
      rw [hz2]
      rw [hsr.1] at b
      refine ⟨fun z => absurd z (by have := hT.1; omega), fun _ => ?_, fun z => absurd z (by decide)⟩
      rw [dm_nx2 (by omega)] at b; rw [b, dm_nx0]; simp; rfl
    · have b := (hB e he).2.1 (by have := hT.1; omega)
      rw [dm_fn hec]
      have hz2 : dm_s4 (fun x => dm_t2 (dm_fu k c 3 x)) = 0 := by omega
      rw [hz2]
      rw [hsr.1] at b
      refine ⟨fun z => absurd z (by have := hT.1; omega), fun _ => ?_, fun z => absurd z (by decide)⟩
      rw [dm_nx2 (by omega), if_neg hec] at b; rw [b, dm_nx0]; exact (hdI (by omega) e he hec).symm
theorem dm_p_data3_11 (h : dm_L0 k gr ac d nd aw n nq R dI dA cu) (hc : c < 4) (hn : 1 ≤ n 9 c) (hz : (dA : Int) + ac c = 0) (hd : dI = 3) (hk : k c = 11) : dm_phi (dm_i (dm_d n 9 c) 3 c) nq gr + 1 ≤ dm_phi n nq gr + 0 := by
  have e1 := dm_ds (n := n) (t := 9) hc hn
  have e2 := dm_is (n := (dm_d n 9 c)) (t := 3) hc
  try simp (disch := decide) only [dm_in, dm_dn] at e1 e2
  simp (disch := decide) only [dm_phi, dm_in, dm_dn]
  omega
theorem dm_t_data3_12 (h : dm_L0 k gr ac d nd aw n nq R dI dA cu) (hc : c < 4) (hn : 1 ≤ n 9 c) (hz : (dA : Int) + ac c = 0) (hd : dI = 3) (hk : k c = 12) :
    dm_L0 (dm_fu k c 3) gr (dm_fu ac c 0) d nd aw (dm_i (dm_d n 9 c) 3 c) nq R dI dA cu := by
  obtain ⟨hA, hT, hB⟩ := h
  have a_c := hA c hc
  have b_c := hB c hc
  have hT0 := hT
  simp only [dm_LT] at hT
  have hr2 : dm_t2 (k c) = 1 := by have := a_c.2.2.2.2.2.2.1; have h1 : dm_t2 (k c) ≤ 1 := by { rw [dm_t2]; split <;> omega }; omega
  have hcR : c = R := a_c.2.2.2.2.2.1 hr2
  subst hcR
  have hl := dm_s4_le (f := n 9) hc
  have hsr := dm_T_src hT (by omega)
  have hIV : dm_s4 (n 7) = 0 := by have := hT.2.2.2.2.2.2.2.2.2.2.2.2.2.2.2.1 (by omega); omega
  have hdI : dI ≠ 1 → ∀ e, e < 4 → e ≠ c → dm_ro (k e) = 0 := fun h1 e he hne => by
    have b := (hB e he).2.2 hsr.1 h1 (by omega) hne
    have l7 := dm_s4_le (f := n 7) he
    omega
  have hSH : dm_s4 (fun x => dm_sh (k x)) = 0 := dm_nosh fun e he => by
    by_cases hne : e = c
    · rw [hne, hk]; rfl
    · have := hdI (by omega) e he hne; rw [dm_ro] at this; omega
  have hOW : dm_s4 (fun x => dm_ow (k x)) = 0 := by
    have : ¬ dm_s4 (fun x => dm_ow (k x)) = 1 := fun z => by have := (hT.2.2.2.2.2.1 z).2; omega
    have := hT.2.2.2.2.1; omega
  have e_t2 := dm_s4_g dm_t2 (f := k) (v := 3) hc
  have e_ow := dm_s4_g dm_ow (f := k) (v := 3) hc
  have e_sh := dm_s4_g dm_sh (f := k) (v := 3) hc
  have e_dt := dm_s4_g dm_dt (f := k) (v := 3) hc
  have q0 := dm_tab12
  simp only [hk] at a_c b_c e_t2 e_ow e_sh e_dt
  have q1 := dm_tab3
  have E_t2 : dm_s4 (fun x => dm_t2 (dm_fu k c 3 x)) + 1 = dm_s4 (fun x => dm_t2 (k x)) := by omega
  have E_ow : dm_s4 (fun x => dm_ow (dm_fu k c 3 x)) = dm_s4 (fun x => dm_ow (k x)) + 1 := by omega
  have E_sh : dm_s4 (fun x => dm_sh (dm_fu k c 3 x)) = dm_s4 (fun x => dm_sh (k x)) := by omega
  have E_dt : dm_s4 (fun x => dm_dt (dm_fu k c 3 x)) = dm_s4 (fun x => dm_dt (k x)) + 1 := by omega
  have e1 := dm_ds (n := n) (t := 9) hc hn
  have e2 := dm_is (n := (dm_d n 9 c)) (t := 3) hc
  try simp (disch := decide) only [dm_in, dm_dn] at e1 e2
  refine ⟨fun e he => ?_, ?_, fun e he => ?_⟩
  · by_cases hec : e = c
    · rw [hec]
      obtain ⟨x1, x2, x3, x4, x5, x6, x7, x8, x9, x10, x11, x12⟩ := a_c
      simp only [dm_A, dm_iv, dm_dv, dm_fs, and_self, and_true, true_and, if_true, reduceIte, Nat.reduceEqDiff, false_and, and_false, if_false, Nat.add_zero, Nat.sub_zero, hk]
      refine ⟨?_, ?_, ?_, ?_, ?_, ?_, ?_, ?_, ?_, ?_, ?_, ?_⟩ <;> (intros; first | trivial | omega)
    · have a := hA e he
      simpa only [dm_fn hec, dm_iv, dm_dv, hec, and_false, if_false, Nat.add_zero, Nat.sub_zero] using a
  · simp (disch := decide) only [dm_LT, dm_in, dm_dn]
    rw [e2, dm_fs, dm_fs]
    rw [← e1] at hT
    have E2 : dm_s4 (fun x => dm_t2 (dm_fu k c 3 x)) = dm_s4 (fun x => dm_t2 (k x)) - 1 := by omega
    rw [E2]
    exact dm_nT_dataC hT hz (fun z => absurd z (by omega)) (fun z => absurd z (by omega)) (fun _ => ⟨E_ow, E_sh, E_dt⟩) (fun _ => hSH)
  · try simp (disch := decide) only [dm_in, dm_dn]
    by_cases hec : e = c
    · have b := b_c.2.1 (by have := hT.1; omega)
      rw [hec, dm_fs]
      have hz2 : dm_s4 (fun x => dm_t2 (dm_fu k c 3 x)) = 0 := by omega
      rw [hz2]
      rw [hsr.1] at b
      refine ⟨fun z => absurd z (by have := hT.1; omega), fun _ => ?_, fun z => absurd z (by decide)⟩
      rw [dm_nx2 (by omega)] at b; rw [b, dm_nx0]; simp; rfl
    · have b := (hB e he).2.1 (by have := hT.1; omega)
      rw [dm_fn hec]
      have hz2 : dm_s4 (fun x => dm_t2 (dm_fu k c 3 x)) = 0 := by omega
      rw [hz2]
      rw [hsr.1] at b
      refine ⟨fun z => absurd z (by have := hT.1; omega), fun _ => ?_, fun z => absurd z (by decide)⟩
      rw [dm_nx2 (by omega), if_neg hec] at b; rw [b, dm_nx0]; exact (hdI (by omega) e he hec).symm
theorem dm_p_data3_12 (h : dm_L0 k gr ac d nd aw n nq R dI dA cu) (hc : c < 4) (hn : 1 ≤ n 9 c) (hz : (dA : Int) + ac c = 0) (hd : dI = 3) (hk : k c = 12) : dm_phi (dm_i (dm_d n 9 c) 3 c) nq gr + 1 ≤ dm_phi n nq gr + 0 := by
  have e1 := dm_ds (n := n) (t := 9) hc hn
  have e2 := dm_is (n := (dm_d n 9 c)) (t := 3) hc
  try simp (disch := decide) only [dm_in, dm_dn] at e1 e2
  simp (disch := decide) only [dm_phi, dm_in, dm_dn]
  omega
end
end
section
section
variable {k gr d nd : Nat → Nat} {ac : Nat → Int} {aw : Nat} {n nq : Nat → Nat → Nat} {R dI dA cu c o : Nat}
theorem dm_t_dataW (h : dm_L0 k gr ac d nd aw n nq R dI dA cu) (hc : c < 4) (hn : 1 ≤ n 9 c) (hz : (dA : Int) + ac c ≠ 0) :
    dm_L0 k (dm_fu gr c 1) (dm_fu ac c (ac c + dA)) d nd aw (dm_d n 9 c) nq R dI dA cu := by
  obtain ⟨hA, hT, hB⟩ := h
  have a_c := hA c hc
  have b_c := hB c hc
  have hT0 := hT
  simp only [dm_LT] at hT
  have hr2 : dm_t2 (k c) = 1 := by have := a_c.2.2.2.2.2.2.1; have h1 : dm_t2 (k c) ≤ 1 := by { rw [dm_t2]; split <;> omega }; omega
  have hcR : c = R := a_c.2.2.2.2.2.1 hr2
  subst hcR
  have hl := dm_s4_le (f := n 9) hc
  have hsr := dm_T_src hT (by omega)
  have hg0 := a_c.2.2.2.2.2.2.1
  have e_g := dm_s4_fu (f := gr) (v := 1) hc
  have e1 := dm_ds (n := n) (t := 9) hc hn
  try simp (disch := decide) only [dm_in, dm_dn] at e1
  refine ⟨fun e he => ?_, ?_, fun e he => ?_⟩
  · by_cases hec : e = c
    · rw [hec]
      obtain ⟨x1, x2, x3, x4, x5, x6, x7, x8, x9, x10, x11, x12⟩ := a_c
      simp only [dm_A, dm_iv, dm_dv, dm_fs, and_self, and_true, true_and, if_true, reduceIte, Nat.reduceEqDiff, false_and, and_false, if_false, Nat.add_zero, Nat.sub_zero]
      refine ⟨?_, ?_, ?_, ?_, ?_, ?_, ?_, ?_, ?_, ?_, ?_, ?_⟩ <;> (intros; first | trivial | omega)
    · have a := hA e he
      simpa only [dm_fn hec, dm_iv, dm_dv, hec, and_false, if_false, Nat.add_zero, Nat.sub_zero] using a
  · simp (disch := decide) only [dm_LT, dm_in, dm_dn]
    have E_g : dm_s4 (dm_fu gr c 1) = dm_s4 gr + 1 := by omega
    rw [E_g, dm_fs]
    rw [← e1] at hT
    exact dm_nT_dataW hT hz
  · try simp (disch := decide) only [dm_in, dm_dn]
    by_cases hec : e = c
    · exact hB e he
    · exact hB e he
theorem dm_p_dataW (h : dm_L0 k gr ac d nd aw n nq R dI dA cu) (hc : c < 4) (hn : 1 ≤ n 9 c) (hz : (dA : Int) + ac c ≠ 0) : dm_phi (dm_d n 9 c) nq (dm_fu gr c 1) + 1 ≤ dm_phi n nq gr + 0 := by
  have a_c := (h.1 c hc).2.2.2.2.2.2.1
  have t_c : dm_t2 (k c) ≤ 1 := by rw [dm_t2]; split <;> omega
  have e1 := dm_s4_fu (f := gr) (v := 1) hc
  have e2 := dm_ds (n := n) (t := 9) hc hn
  try simp (disch := decide) only [dm_in, dm_dn] at e1 e2
  simp (disch := decide) only [dm_phi, dm_in, dm_dn]
  omega
theorem dm_t_granW (h : dm_L0 k gr ac d nd aw n nq R dI dA cu) (hc : c < 4) (hn : 1 ≤ n 10 c) (hz : (dA : Int) + ac c ≠ 0) :
    dm_L0 k (dm_fu gr c 1) (dm_fu ac c (ac c + dA)) d nd aw (dm_d n 10 c) nq R dI dA cu := by
  obtain ⟨hA, hT, hB⟩ := h
  have a_c := hA c hc
  have b_c := hB c hc
  have hT0 := hT
  simp only [dm_LT] at hT
  have hr2 : dm_t2 (k c) = 1 := by have := a_c.2.2.2.2.2.2.1; have h1 : dm_t2 (k c) ≤ 1 := by { rw [dm_t2]; split <;> omega }; omega
  have hcR : c = R := a_c.2.2.2.2.2.1 hr2
  subst hcR
  have hl := dm_s4_le (f := n 10) hc
  have hsr := dm_T_src hT (by omega)
  have hg0 := a_c.2.2.2.2.2.2.1
  have e_g := dm_s4_fu (f := gr) (v := 1) hc
  have e1 := dm_ds (n := n) (t := 10) hc hn
  try simp (disch := decide) only [dm_in, dm_dn] at e1
  refine ⟨fun e he => ?_, ?_, fun e he => ?_⟩
  · by_cases hec : e = c
    · rw [hec]
      obtain ⟨x1, x2, x3, x4, x5, x6, x7, x8, x9, x10, x11, x12⟩ := a_c
      simp only [dm_A, dm_iv, dm_dv, dm_fs, and_self, and_true, true_and, if_true, reduceIte, Nat.reduceEqDiff, false_and, and_false, if_false, Nat.add_zero, Nat.sub_zero]
      refine ⟨?_, ?_, ?_, ?_, ?_, ?_, ?_, ?_, ?_, ?_, ?_, ?_⟩ <;> (intros; first | trivial | omega)
    · have a := hA e he
      simpa only [dm_fn hec, dm_iv, dm_dv, hec, and_false, if_false, Nat.add_zero, Nat.sub_zero] using a
  · simp (disch := decide) only [dm_LT, dm_in, dm_dn]
    have E_g : dm_s4 (dm_fu gr c 1) = dm_s4 gr + 1 := by omega
    rw [E_g, dm_fs]
    rw [← e1] at hT
    exact dm_nT_granW hT hz
  · try simp (disch := decide) only [dm_in, dm_dn]
    by_cases hec : e = c
    · exact hB e he
    · exact hB e he
theorem dm_p_granW (h : dm_L0 k gr ac d nd aw n nq R dI dA cu) (hc : c < 4) (hn : 1 ≤ n 10 c) (hz : (dA : Int) + ac c ≠ 0) : dm_phi (dm_d n 10 c) nq (dm_fu gr c 1) + 1 ≤ dm_phi n nq gr + 0 := by
  have a_c := (h.1 c hc).2.2.2.2.2.2.1
  have t_c : dm_t2 (k c) ≤ 1 := by rw [dm_t2]; split <;> omega
  have e1 := dm_s4_fu (f := gr) (v := 1) hc
  have e2 := dm_ds (n := n) (t := 10) hc hn
  try simp (disch := decide) only [dm_in, dm_dn] at e1 e2
  simp (disch := decide) only [dm_phi, dm_in, dm_dn]
  omega
theorem dm_t_granC (h : dm_L0 k gr ac d nd aw n nq R dI dA cu) (hc : c < 4) (hn : 1 ≤ n 10 c) (hz : (dA : Int) + ac c = 0) :
    dm_L0 (dm_fu k c 2) gr (dm_fu ac c 0) d nd aw (dm_i (dm_d n 10 c) 3 c) nq R dI dA cu := by
  obtain ⟨hA, hT, hB⟩ := h
  have a_c := hA c hc
  have b_c := hB c hc
  have hT0 := hT
  simp only [dm_LT] at hT
  have hr2 : dm_t2 (k c) = 1 := by have := a_c.2.2.2.2.2.2.1; have h1 : dm_t2 (k c) ≤ 1 := by { rw [dm_t2]; split <;> omega }; omega
  have hcR : c = R := a_c.2.2.2.2.2.1 hr2
  subst hcR
  have hl := dm_s4_le (f := n 10) hc
  have hsr := dm_T_src hT (by omega)
  have hk : k c = 13 := hT.2.2.2.2.2.2.2.2.2.2.2.2.2.1 (by omega)
  have hIV : dm_s4 (n 7) = 0 := by have := hT.2.2.2.2.2.2.2.2.2.2.2.2.2.2.2.1 (by omega); omega
  have hdI : dI ≠ 1 → ∀ e, e < 4 → e ≠ c → dm_ro (k e) = 0 := fun h1 e he hne => by
    have b := (hB e he).2.2 hsr.1 h1 (by omega) hne
    have l7 := dm_s4_le (f := n 7) he
    omega
  have hd1 : dI ≠ 1 := fun z => by have := hT.2.2.2.2.2.2.2.2.1 hsr.1 z; omega
  have hSH' : dm_s4 (fun x => dm_sh (dm_fu k c 2 x)) = 0 := dm_nosh fun e he => by
    by_cases hne : e = c
    · rw [hne, dm_fs]; rfl
    · rw [dm_fn hne]; have := hdI hd1 e he hne; rw [dm_ro] at this; omega
  have hOW : dm_s4 (fun x => dm_ow (k x)) = 0 := by
    have : ¬ dm_s4 (fun x => dm_ow (k x)) = 1 := fun z => by have := (hT.2.2.2.2.2.1 z).2; omega
    have := hT.2.2.2.2.1; omega
  have e_t2 := dm_s4_g dm_t2 (f := k) (v := 2) hc
  have e_ow := dm_s4_g dm_ow (f := k) (v := 2) hc
  have e_sh := dm_s4_g dm_sh (f := k) (v := 2) hc
  have e_dt := dm_s4_g dm_dt (f := k) (v := 2) hc
  have q0 := dm_tab13
  simp only [hk] at a_c b_c e_t2 e_ow e_sh e_dt
  have q1 := dm_tab2
  have E_t2 : dm_s4 (fun x => dm_t2 (dm_fu k c 2 x)) + 1 = dm_s4 (fun x => dm_t2 (k x)) := by omega
  have E_ow : dm_s4 (fun x => dm_ow (dm_fu k c 2 x)) = dm_s4 (fun x => dm_ow (k x)) + 1 := by omega
  have E_sh : dm_s4 (fun x => dm_sh (dm_fu k c 2 x)) + 1 = dm_s4 (fun x => dm_sh (k x)) := by omega
  have E_dt : dm_s4 (fun x => dm_dt (dm_fu k c 2 x)) = dm_s4 (fun x => dm_dt (k x)) := by omega
  have e1 := dm_ds (n := n) (t := 10) hc hn
  have e2 := dm_is (n := (dm_d n 10 c)) (t := 3) hc
  try simp (disch := decide) only [dm_in, dm_dn] at e1 e2
  refine ⟨fun e he => ?_, ?_, fun e he => ?_⟩
  · by_cases hec : e = c
    · rw [hec]
      obtain ⟨x1, x2, x3, x4, x5, x6, x7, x8, x9, x10, x11, x12⟩ := a_c
      simp only [dm_A, dm_iv, dm_dv, dm_fs, and_self, and_true, true_and, if_true, reduceIte, Nat.reduceEqDiff, false_and, and_false, if_false, Nat.add_zero, Nat.sub_zero, hk]
      refine ⟨?_, ?_, ?_, ?_, ?_, ?_, ?_, ?_, ?_, ?_, ?_, ?_⟩ <;> (intros; first | trivial | omega)
    · have a := hA e he
      simpa only [dm_fn hec, dm_iv, dm_dv, hec, and_false, if_false, Nat.add_zero, Nat.sub_zero] using a
  · simp (disch := decide) only [dm_LT, dm_in, dm_dn]
    have E2 : dm_s4 (fun x => dm_t2 (dm_fu k c 2 x)) = dm_s4 (fun x => dm_t2 (k x)) - 1 := by omega
    rw [e2, dm_fs, dm_fs, E2, E_ow, E_dt]
    rw [← e1] at hT
    exact dm_nT_granC hT hz hSH'
  · try simp (disch := decide) only [dm_in, dm_dn]
    by_cases hec : e = c
    · have b := b_c.2.1 (by have := hT.1; omega)
      rw [hec, dm_fs]
      have hz2 : dm_s4 (fun x => dm_t2 (dm_fu k c 2 x)) = 0 := by omega
      rw [hz2]
      rw [hsr.1] at b
      refine ⟨fun z => absurd z (by have := hT.1; omega), fun _ => ?_, fun z => absurd z (by decide)⟩
      rw [dm_nx2 hd1] at b; rw [b, dm_nx0]; simp; rfl
    · have b := (hB e he).2.1 (by have := hT.1; omega)
      rw [dm_fn hec]
      have hz2 : dm_s4 (fun x => dm_t2 (dm_fu k c 2 x)) = 0 := by omega
      rw [hz2]
      rw [hsr.1] at b
      refine ⟨fun z => absurd z (by have := hT.1; omega), fun _ => ?_, fun z => absurd z (by decide)⟩
      rw [dm_nx2 hd1, if_neg hec] at b; rw [b, dm_nx0]; exact (hdI hd1 e he hec).symm
theorem dm_p_granC (h : dm_L0 k gr ac d nd aw n nq R dI dA cu) (hc : c < 4) (hn : 1 ≤ n 10 c) (hz : (dA : Int) + ac c = 0) : dm_phi (dm_i (dm_d n 10 c) 3 c) nq gr + 1 ≤ dm_phi n nq gr + 0 := by
  have e1 := dm_ds (n := n) (t := 10) hc hn
  have e2 := dm_is (n := (dm_d n 10 c)) (t := 3) hc
  try simp (disch := decide) only [dm_in, dm_dn] at e1 e2
  simp (disch := decide) only [dm_phi, dm_in, dm_dn]
  omega
theorem dm_t_ackC12 (h : dm_L0 k gr ac d nd aw n nq R dI dA cu) (hc : c < 4) (hR : R < 4) (hn : 1 ≤ n 8 c) (hg : gr R = 1) (hz : ac R = 1) (hk : k R = 12) :
    dm_L0 (dm_fu k R 2) (dm_fu gr R 0) (dm_fu ac R 0) d nd aw (dm_i (dm_d n 8 c) 3 R) nq R dI dA cu := by
  obtain ⟨hA, hT, hB⟩ := h
  have a_c := hA c hc
  have b_c := hB c hc
  have a_R := hA R hR
  have b_R := hB R hR
  have hT0 := hT
  simp only [dm_LT] at hT
  have hl := dm_s4_le (f := n 8) hc
  have hlg := dm_s4_le (f := gr) hR
  have hsr := dm_T_src hT (by omega)
  have hIV : dm_s4 (n 7) = 0 := by have := (hT.2.2.2.2.2.2.2.2.2.2.2.2.2.2.2.2.1 (by omega)).1; omega
  have hcR : c ≠ R := fun z => by have := a_c.2.2.2.2.2.2.2.2.2.2.2 z; omega
  have hdI : dI ≠ 1 → ∀ e, e < 4 → e ≠ R → dm_ro (k e) = 0 := fun h1 e he hne => by
    have b := (hB e he).2.2 hsr.1 h1 (by omega) hne
    have l7 := dm_s4_le (f := n 7) he
    omega
  have hd1 : dI ≠ 1 := fun z => by have := hT.2.2.2.2.2.2.2.2.1 hsr.1 z; omega
  have hSH' : dm_s4 (fun x => dm_sh (dm_fu k R 2 x)) = 0 := dm_nosh fun e he => by
    by_cases hne : e = R
    · rw [hne, dm_fs]; rfl
    · rw [dm_fn hne]; have := hdI hd1 e he hne; rw [dm_ro] at this; omega
  have hOW : dm_s4 (fun x => dm_ow (k x)) = 0 := by
    have : ¬ dm_s4 (fun x => dm_ow (k x)) = 1 := fun z => by have := (hT.2.2.2.2.2.1 z).2; omega
    have := hT.2.2.2.2.1; omega
  have e_t2 := dm_s4_g dm_t2 (f := k) (v := 2) hR
  have e_ow := dm_s4_g dm_ow (f := k) (v := 2) hR
  have e_sh := dm_s4_g dm_sh (f := k) (v := 2) hR
  have e_dt := dm_s4_g dm_dt (f := k) (v := 2) hR
  have q0 := dm_tab12
  simp only [hk] at a_R b_R e_t2 e_ow e_sh e_dt
  have q1 := dm_tab2
  have E_t2 : dm_s4 (fun x => dm_t2 (dm_fu k R 2 x)) + 1 = dm_s4 (fun x => dm_t2 (k x)) := by omega
  have E_ow : dm_s4 (fun x => dm_ow (dm_fu k R 2 x)) = dm_s4 (fun x => dm_ow (k x)) + 1 := by omega
  have E_sh : dm_s4 (fun x => dm_sh (dm_fu k R 2 x)) = dm_s4 (fun x => dm_sh (k x)) := by omega
  have E_dt : dm_s4 (fun x => dm_dt (dm_fu k R 2 x)) = dm_s4 (fun x => dm_dt (k x)) := by omega
  have e_g := dm_s4_fu (f := gr) (v := 0) hR
  have e1 := dm_ds (n := n) (t := 8) hc hn
  have e2 := dm_is (n := (dm_d n 8 c)) (t := 3) hR
  try simp (disch := decide) only [dm_in, dm_dn] at e1 e2
  refine ⟨fun e he => ?_, ?_, fun e he => ?_⟩
  · by_cases hec : e = R
    · rw [hec]
      obtain ⟨x1, x2, x3, x4, x5, x6, x7, x8, x9, x10, x11, x12⟩ := a_R
      simp only [dm_A, dm_iv, dm_dv, dm_fs, and_self, and_true, true_and, if_true, reduceIte, Nat.reduceEqDiff, false_and, and_false, if_false, Nat.add_zero, Nat.sub_zero, hk, hcR, Ne.symm hcR]
      refine ⟨?_, ?_, ?_, ?_, ?_, ?_, ?_, ?_, ?_, ?_, ?_, ?_⟩ <;> (intros; first | trivial | omega)
    · have a := hA e he
      obtain ⟨x1, x2, x3, x4, x5, x6, x7, x8, x9, x10, x11, x12⟩ := a
      simp only [dm_A, dm_fn hec, dm_iv, dm_dv, hec, and_false, if_false, Nat.add_zero, Nat.sub_zero, reduceIte, Nat.reduceEqDiff, false_and, true_and]
      refine ⟨?_, ?_, ?_, ?_, ?_, ?_, ?_, ?_, ?_, ?_, ?_, ?_⟩ <;> (intros; first | trivial | omega)
  · simp (disch := decide) only [dm_LT, dm_in, dm_dn]
    have E2 : dm_s4 (fun x => dm_t2 (dm_fu k R 2 x)) = dm_s4 (fun x => dm_t2 (k x)) - 1 := by omega
    have E_g : dm_s4 gr = dm_s4 (dm_fu gr R 0) + 1 := by omega
    rw [e2, dm_fs, dm_fs, E2, E_ow, E_dt]
    rw [← e1, E_g, hz] at hT
    exact dm_nT_ackC hT hSH'
  · try simp (disch := decide) only [dm_in, dm_dn]
    by_cases hec : e = R
    · have b := b_R.2.1 (by have := hT.1; omega)
      rw [hec, dm_fs]
      have hz2 : dm_s4 (fun x => dm_t2 (dm_fu k R 2 x)) = 0 := by omega
      rw [hz2]
      rw [hsr.1] at b
      refine ⟨fun z => absurd z (by have := hT.1; omega), fun _ => ?_, fun z => absurd z (by decide)⟩
      rw [dm_nx2 hd1] at b; rw [b, dm_nx0]; simp; rfl
    · have b := (hB e he).2.1 (by have := hT.1; omega)
      rw [dm_fn hec]
      have hz2 : dm_s4 (fun x => dm_t2 (dm_fu k R 2 x)) = 0 := by omega
      rw [hz2]
      rw [hsr.1] at b
      refine ⟨fun z => absurd z (by have := hT.1; omega), fun _ => ?_, fun z => absurd z (by decide)⟩
      rw [dm_nx2 hd1, if_neg hec] at b; rw [b, dm_nx0]; exact (hdI hd1 e he hec).symm
theorem dm_p_ackC12 (h : dm_L0 k gr ac d nd aw n nq R dI dA cu) (hc : c < 4) (hR : R < 4) (hn : 1 ≤ n 8 c) (hg : gr R = 1) (hz : ac R = 1) (hk : k R = 12) : dm_phi (dm_i (dm_d n 8 c) 3 R) nq (dm_fu gr R 0) + 1 ≤ dm_phi n nq gr + 0 := by
  have a_R := (h.1 R hR).2.2.2.2.2.2.1
  have t_R : dm_t2 (k R) ≤ 1 := by rw [dm_t2]; split <;> omega
  have e1 := dm_s4_fu (f := gr) (v := 0) hR
  have e2 := dm_ds (n := n) (t := 8) hc hn
  have e3 := dm_is (n := (dm_d n 8 c)) (t := 3) hR
  try simp (disch := decide) only [dm_in, dm_dn] at e1 e2 e3
  simp (disch := decide) only [dm_phi, dm_in, dm_dn]
  omega
theorem dm_t_ackC13 (h : dm_L0 k gr ac d nd aw n nq R dI dA cu) (hc : c < 4) (hR : R < 4) (hn : 1 ≤ n 8 c) (hg : gr R = 1) (hz : ac R = 1) (hk : k R = 13) :
    dm_L0 (dm_fu k R 2) (dm_fu gr R 0) (dm_fu ac R 0) d nd aw (dm_i (dm_d n 8 c) 3 R) nq R dI dA cu := by
  obtain ⟨hA, hT, hB⟩ := h
  have a_c := hA c hc
  have b_c := hB c hc
  have a_R := hA R hR
  have b_R := hB R hR
  have hT0 := hT
  simp only [dm_LT] at hT
  have hl := dm_s4_le (f := n 8) hc
  have hlg := dm_s4_le (f := gr) hR
  have hsr := dm_T_src hT (by omega)
  have hIV : dm_s4 (n 7) = 0 := by have := (hT.2.2.2.2.2.2.2.2.2.2.2.2.2.2.2.2.1 (by omega)).1; omega
  have hcR : c ≠ R := fun z => by have := a_c.2.2.2.2.2.2.2.2.2.2.2 z; omega
  have hdI : dI ≠ 1 → ∀ e, e < 4 → e ≠ R → dm_ro (k e) = 0 := fun h1 e he hne => by
    have b := (hB e he).2.2 hsr.1 h1 (by omega) hne
    have l7 := dm_s4_le (f := n 7) he
    omega
  have hd1 : dI ≠ 1 := fun z => by have := hT.2.2.2.2.2.2.2.2.1 hsr.1 z; omega
  have hSH' : dm_s4 (fun x => dm_sh (dm_fu k R 2 x)) = 0 := dm_nosh fun e he => by
    by_cases hne : e = R
    · rw [hne, dm_fs]; rfl
    · rw [dm_fn hne]; have := hdI hd1 e he hne; rw [dm_ro] at this; omega
  have hOW : dm_s4 (fun x => dm_ow (k x)) = 0 := by
    have : ¬ dm_s4 (fun x => dm_ow (k x)) = 1 := fun z => by have := (hT.2.2.2.2.2.1 z).2; omega
    have := hT.2.2.2.2.1; omega
  have e_t2 := dm_s4_g dm_t2 (f := k) (v := 2) hR
  have e_ow := dm_s4_g dm_ow (f := k) (v := 2) hR
  have e_sh := dm_s4_g dm_sh (f := k) (v := 2) hR
  have e_dt := dm_s4_g dm_dt (f := k) (v := 2) hR
  have q0 := dm_tab13
  simp only [hk] at a_R b_R e_t2 e_ow e_sh e_dt
  have q1 := dm_tab2
  have E_t2 : dm_s4 (fun x => dm_t2 (dm_fu k R 2 x)) + 1 = dm_s4 (fun x => dm_t2 (k x)) := by omega
  have E_ow : dm_s4 (fun x => dm_ow (dm_fu k R 2 x)) = dm_s4 (fun x => dm_ow (k x)) + 1 := by omega
  have E_sh : dm_s4 (fun x => dm_sh (dm_fu k R 2 x)) + 1 = dm_s4 (fun x => dm_sh (k x)) := by omega
  have E_dt : dm_s4 (fun x => dm_dt (dm_fu k R 2 x)) = dm_s4 (fun x => dm_dt (k x)) := by omega
  have e_g := dm_s4_fu (f := gr) (v := 0) hR
  have e1 := dm_ds (n := n) (t := 8) hc hn
  have e2 := dm_is (n := (dm_d n 8 c)) (t := 3) hR
  try simp (disch := decide) only [dm_in, dm_dn] at e1 e2
  refine ⟨fun e he => ?_, ?_, fun e he => ?_⟩
  · by_cases hec : e = R
    · rw [hec]
      obtain ⟨x1, x2, x3, x4, x5, x6, x7, x8, x9, x10, x11, x12⟩ := a_R
      simp only [dm_A, dm_iv, dm_dv, dm_fs, and_self, and_true, true_and, if_true, reduceIte, Nat.reduceEqDiff, false_and, and_false, if_false, Nat.add_zero, Nat.sub_zero, hk, hcR, Ne.symm hcR]
      refine ⟨?_, ?_, ?_, ?_, ?_, ?_, ?_, ?_, ?_, ?_, ?_, ?_⟩ <;> (intros; first | trivial | omega)
    · have a := hA e he
      obtain ⟨x1, x2, x3, x4, x5, x6, x7, x8, x9, x10, x11, x12⟩ := a
      simp only [dm_A, dm_fn hec, dm_iv, dm_dv, hec, and_false, if_false, Nat.add_zero, Nat.sub_zero, reduceIte, Nat.reduceEqDiff, false_and, true_and]
      refine ⟨?_, ?_, ?_, ?_, ?_, ?_, ?_, ?_, ?_, ?_, ?_, ?_⟩ <;> (intros; first | trivial | omega)
  · simp (disch := decide) only [dm_LT, dm_in, dm_dn]
    have E2 : dm_s4 (fun x => dm_t2 (dm_fu k R 2 x)) = dm_s4 (fun x => dm_t2 (k x)) - 1 := by omega
    have E_g : dm_s4 gr = dm_s4 (dm_fu gr R 0) + 1 := by omega
    rw [e2, dm_fs, dm_fs, E2, E_ow, E_dt]
    rw [← e1, E_g, hz] at hT
    exact dm_nT_ackC hT hSH'
  · try simp (disch := decide) only [dm_in, dm_dn]
    by_cases hec : e = R
    · have b := b_R.2.1 (by have := hT.1; omega)
      rw [hec, dm_fs]
      have hz2 : dm_s4 (fun x => dm_t2 (dm_fu k R 2 x)) = 0 := by omega
      rw [hz2]
      rw [hsr.1] at b
      refine ⟨fun z => absurd z (by have := hT.1; omega), fun _ => ?_, fun z => absurd z (by decide)⟩
      rw [dm_nx2 hd1] at b; rw [b, dm_nx0]; simp; rfl
    · have b := (hB e he).2.1 (by have := hT.1; omega)
      rw [dm_fn hec]
      have hz2 : dm_s4 (fun x => dm_t2 (dm_fu k R 2 x)) = 0 := by omega
      rw [hz2]
      rw [hsr.1] at b
      refine ⟨fun z => absurd z (by have := hT.1; omega), fun _ => ?_, fun z => absurd z (by decide)⟩
      rw [dm_nx2 hd1, if_neg hec] at b; rw [b, dm_nx0]; exact (hdI hd1 e he hec).symm
theorem dm_p_ackC13 (h : dm_L0 k gr ac d nd aw n nq R dI dA cu) (hc : c < 4) (hR : R < 4) (hn : 1 ≤ n 8 c) (hg : gr R = 1) (hz : ac R = 1) (hk : k R = 13) : dm_phi (dm_i (dm_d n 8 c) 3 R) nq (dm_fu gr R 0) + 1 ≤ dm_phi n nq gr + 0 := by
  have a_R := (h.1 R hR).2.2.2.2.2.2.1
  have t_R : dm_t2 (k R) ≤ 1 := by rw [dm_t2]; split <;> omega
  have e1 := dm_s4_fu (f := gr) (v := 0) hR
  have e2 := dm_ds (n := n) (t := 8) hc hn
  have e3 := dm_is (n := (dm_d n 8 c)) (t := 3) hR
  try simp (disch := decide) only [dm_in, dm_dn] at e1 e2 e3
  simp (disch := decide) only [dm_phi, dm_in, dm_dn]
  omega
theorem dm_t_ackW (h : dm_L0 k gr ac d nd aw n nq R dI dA cu) (hc : c < 4) (hR : R < 4) (hn : 1 ≤ n 8 c) (hz : gr R = 0 ∨ ac R ≠ 1) :
    dm_L0 k gr (dm_fu ac R (ac R - 1)) d nd aw (dm_d n 8 c) nq R dI dA cu := by
  obtain ⟨hA, hT, hB⟩ := h
  have a_c := hA c hc
  have b_c := hB c hc
  have a_R := hA R hR
  have b_R := hB R hR
  have hT0 := hT
  simp only [dm_LT] at hT
  have hl := dm_s4_le (f := n 8) hc
  have ht1 : dm_s4 (fun x => dm_t2 (k x)) = 1 := by
    have : ¬ dm_s4 (fun x => dm_t2 (k x)) = 0 := fun z => by have := hT.2.2.2.2.2.2.1 z; omega
    have := hT.2.1; omega
  have hR3 := hT.2.2.2.2.2.2.2.1 ht1
  have hcR : c ≠ R := fun z => by have := a_c.2.2.2.2.2.2.2.2.2.2.2 z; omega
  have hr2 : dm_t2 (k R) = 1 := by
    have : k R = 11 ∨ k R = 12 ∨ k R = 13 := by omega
    rcases this with e | e | e <;> rw [e] <;> rfl
  have hz' : dm_s4 gr = 0 ∨ ac R ≠ 1 := by
    rcases hz with z | z
    · left
      have : ∀ e, e < 4 → gr e = 0 := fun e he => by
        by_cases hne : e = R
        · rw [hne]; exact z
        · have a := hA e he
          have h1 := a.2.2.2.2.2.2.1
          have h2 : dm_t2 (k e) ≤ 1 := by rw [dm_t2]; split <;> omega
          have h3 : ¬ dm_t2 (k e) = 1 := fun y => hne (a.2.2.2.2.2.1 y)
          omega
      simp only [dm_s4]; rw [this 0 (by omega), this 1 (by omega), this 2 (by omega), this 3 (by omega)]
    · exact Or.inr z
  have e1 := dm_ds (n := n) (t := 8) hc hn
  try simp (disch := decide) only [dm_in, dm_dn] at e1
  refine ⟨fun e he => ?_, ?_, fun e he => ?_⟩
  · by_cases hec : e = R
    · rw [hec]
      obtain ⟨x1, x2, x3, x4, x5, x6, x7, x8, x9, x10, x11, x12⟩ := a_R
      simp only [dm_A, dm_iv, dm_dv, dm_fs, and_self, and_true, true_and, if_true, reduceIte, Nat.reduceEqDiff, false_and, and_false, if_false, Nat.add_zero, Nat.sub_zero, hcR, Ne.symm hcR]
      refine ⟨?_, ?_, ?_, ?_, ?_, ?_, ?_, ?_, ?_, ?_, ?_, ?_⟩ <;> (intros; first | trivial | omega)
    · have a := hA e he
      obtain ⟨x1, x2, x3, x4, x5, x6, x7, x8, x9, x10, x11, x12⟩ := a
      simp only [dm_A, dm_fn hec, dm_iv, dm_dv, hec, and_false, if_false, Nat.add_zero, Nat.sub_zero, reduceIte, Nat.reduceEqDiff, false_and, true_and]
      refine ⟨?_, ?_, ?_, ?_, ?_, ?_, ?_, ?_, ?_, ?_, ?_, ?_⟩ <;> (intros; first | trivial | omega)
  · simp (disch := decide) only [dm_LT, dm_in, dm_dn]
    rw [dm_fs]
    rw [← e1] at hT
    exact dm_nT_ackW hT hz'
  · try simp (disch := decide) only [dm_in, dm_dn]
    by_cases hec : e = c
    · exact hB e he
    · exact hB e he
theorem dm_p_ackW (h : dm_L0 k gr ac d nd aw n nq R dI dA cu) (hc : c < 4) (hR : R < 4) (hn : 1 ≤ n 8 c) (hz : gr R = 0 ∨ ac R ≠ 1) : dm_phi (dm_d n 8 c) nq gr + 1 ≤ dm_phi n nq gr + 0 := by
  have e1 := dm_ds (n := n) (t := 8) hc hn
  try simp (disch := decide) only [dm_in, dm_dn] at e1
  simp (disch := decide) only [dm_phi, dm_in, dm_dn]
  omega
end
end
section
section
variable {k gr d nd : Nat → Nat} {ac : Nat → Int} {aw : Nat} {n nq : Nat → Nat → Nat} {R dI dA cu c o : Nat}
theorem dm_t_inv1 (h : dm_L0 k gr ac d nd aw n nq R dI dA cu) (hc : c < 4) (hn : 1 ≤ n 7 c) (hk : k c = 1) :
    dm_L0 (dm_fu k c 0) gr ac d nd aw (dm_i (dm_d n 7 c) 8 c) nq R dI dA cu := by
  obtain ⟨hA, hT, hB⟩ := h
  have a_c := hA c hc
  have b_c := hB c hc
  have hT0 := hT
  simp only [dm_LT] at hT
  have hl := dm_s4_le (f := n 7) hc
  have ht1 : dm_s4 (fun x => dm_t2 (k x)) = 1 := by
    have : ¬ dm_s4 (fun x => dm_t2 (k x)) = 0 := fun z => by have := hT.2.2.2.2.2.2.1 z; omega
    have := hT.2.1; omega
  have hd1 : dI ≠ 1 := fun z => by have := hT.2.2.2.2.2.2.2.2.1 ht1 z; omega
  have hcR : c ≠ R := fun z => by have := a_c.2.2.2.2.2.2.2.2.2.2.2 z; omega
  have e_t2 := dm_s4_g dm_t2 (f := k) (v := 0) hc
  have e_ow := dm_s4_g dm_ow (f := k) (v := 0) hc
  have e_sh := dm_s4_g dm_sh (f := k) (v := 0) hc
  have e_dt := dm_s4_g dm_dt (f := k) (v := 0) hc
  have q0 := dm_tab1
  simp only [hk] at a_c b_c e_t2 e_ow e_sh e_dt
  have q1 := dm_tab0
  have E_t2 : dm_s4 (fun x => dm_t2 (dm_fu k c 0 x)) = dm_s4 (fun x => dm_t2 (k x)) := by omega
  have E_ow : dm_s4 (fun x => dm_ow (dm_fu k c 0 x)) = dm_s4 (fun x => dm_ow (k x)) := by omega
  have E_sh : dm_s4 (fun x => dm_sh (dm_fu k c 0 x)) + 1 = dm_s4 (fun x => dm_sh (k x)) := by omega
  have E_dt : dm_s4 (fun x => dm_dt (dm_fu k c 0 x)) = dm_s4 (fun x => dm_dt (k x)) := by omega
  have e1 := dm_ds (n := n) (t := 7) hc hn
  have e2 := dm_is (n := (dm_d n 7 c)) (t := 8) hc
  try simp (disch := decide) only [dm_in, dm_dn] at e1 e2
  refine ⟨fun e he => ?_, ?_, fun e he => ?_⟩
  · by_cases hec : e = c
    · rw [hec]
      obtain ⟨x1, x2, x3, x4, x5, x6, x7, x8, x9, x10, x11, x12⟩ := a_c
      simp only [dm_A, dm_iv, dm_dv, dm_fs, and_self, and_true, true_and, if_true, reduceIte, Nat.reduceEqDiff, false_and, and_false, if_false, Nat.add_zero, Nat.sub_zero, hk]
      refine ⟨?_, ?_, ?_, ?_, ?_, ?_, ?_, ?_, ?_, ?_, ?_, ?_⟩ <;> (intros; first | trivial | omega)
    · have a := hA e he
      simpa only [dm_fn hec, dm_iv, dm_dv, hec, and_false, if_false, Nat.add_zero, Nat.sub_zero] using a
  · simp (disch := decide) only [dm_LT, dm_in, dm_dn]
    rw [E_t2, E_ow, E_dt, e2, dm_fn (Ne.symm hcR)]
    rw [← e1] at hT
    exact dm_nT_inv hT (by omega)
  · try simp (disch := decide) only [dm_in, dm_dn]
    by_cases hec : e = c
    · rw [hec, dm_fs, E_t2, dm_dv]
      have b := b_c.2.1 (by have := hT.1; omega)
      rw [ht1, dm_nx2 hd1] at b
      rw [ht1]
      refine ⟨fun z => absurd z (by have := hT.1; omega), fun _ => by rw [dm_nx2 hd1]; exact b, fun _ _ _ _ => ?_⟩
      simp only [and_self, if_true]
      have := a_c.2.2.2.2.2.2.2.2.2.2.1
      omega
    · rw [dm_fn hec, E_t2, dm_dv]
      simp only [hec, and_false, if_false, Nat.sub_zero]
      exact hB e he
theorem dm_p_inv1 (h : dm_L0 k gr ac d nd aw n nq R dI dA cu) (hc : c < 4) (hn : 1 ≤ n 7 c) (hk : k c = 1) : dm_phi (dm_i (dm_d n 7 c) 8 c) nq gr + 1 ≤ dm_phi n nq gr + 0 := by
  have e1 := dm_ds (n := n) (t := 7) hc hn
  have e2 := dm_is (n := (dm_d n 7 c)) (t := 8) hc
  try simp (disch := decide) only [dm_in, dm_dn] at e1 e2
  simp (disch := decide) only [dm_phi, dm_in, dm_dn]
  omega
theorem dm_t_inv6 (h : dm_L0 k gr ac d nd aw n nq R dI dA cu) (hc : c < 4) (hn : 1 ≤ n 7 c) (hk : k c = 6) :
    dm_L0 (dm_fu k c 5) gr ac d nd aw (dm_i (dm_d n 7 c) 8 c) nq R dI dA cu := by
  obtain ⟨hA, hT, hB⟩ := h
  have a_c := hA c hc
  have b_c := hB c hc
  have hT0 := hT
  simp only [dm_LT] at hT
  have hl := dm_s4_le (f := n 7) hc
  have ht1 : dm_s4 (fun x => dm_t2 (k x)) = 1 := by
    have : ¬ dm_s4 (fun x => dm_t2 (k x)) = 0 := fun z => by have := hT.2.2.2.2.2.2.1 z; omega
    have := hT.2.1; omega
  have hd1 : dI ≠ 1 := fun z => by have := hT.2.2.2.2.2.2.2.2.1 ht1 z; omega
  have hcR : c ≠ R := fun z => by have := a_c.2.2.2.2.2.2.2.2.2.2.2 z; omega
  have e_t2 := dm_s4_g dm_t2 (f := k) (v := 5) hc
  have e_ow := dm_s4_g dm_ow (f := k) (v := 5) hc
  have e_sh := dm_s4_g dm_sh (f := k) (v := 5) hc
  have e_dt := dm_s4_g dm_dt (f := k) (v := 5) hc
  have q0 := dm_tab6
  simp only [hk] at a_c b_c e_t2 e_ow e_sh e_dt
  have q1 := dm_tab5
  have E_t2 : dm_s4 (fun x => dm_t2 (dm_fu k c 5 x)) = dm_s4 (fun x => dm_t2 (k x)) := by omega
  have E_ow : dm_s4 (fun x => dm_ow (dm_fu k c 5 x)) = dm_s4 (fun x => dm_ow (k x)) := by omega
  have E_sh : dm_s4 (fun x => dm_sh (dm_fu k c 5 x)) + 1 = dm_s4 (fun x => dm_sh (k x)) := by omega
  have E_dt : dm_s4 (fun x => dm_dt (dm_fu k c 5 x)) = dm_s4 (fun x => dm_dt (k x)) := by omega
  have e1 := dm_ds (n := n) (t := 7) hc hn
  have e2 := dm_is (n := (dm_d n 7 c)) (t := 8) hc
  try simp (disch := decide) only [dm_in, dm_dn] at e1 e2
  refine ⟨fun e he => ?_, ?_, fun e he => ?_⟩
  · by_cases hec : e = c
    · rw [hec]
      obtain ⟨x1, x2, x3, x4, x5, x6, x7, x8, x9, x10, x11, x12⟩ := a_c
      simp only [dm_A, dm_iv, dm_dv, dm_fs, and_self, and_true, true_and, if_true, reduceIte, Nat.reduceEqDiff, false_and, and_false, if_false, Nat.add_zero, Nat.sub_zero, hk]
      refine ⟨?_, ?_, ?_, ?_, ?_, ?_, ?_, ?_, ?_, ?_, ?_, ?_⟩ <;> (intros; first | trivial | omega)
    · have a := hA e he
      simpa only [dm_fn hec, dm_iv, dm_dv, hec, and_false, if_false, Nat.add_zero, Nat.sub_zero] using a
  · simp (disch := decide) only [dm_LT, dm_in, dm_dn]
    rw [E_t2, E_ow, E_dt, e2, dm_fn (Ne.symm hcR)]
    rw [← e1] at hT
    exact dm_nT_inv hT (by omega)
  · try simp (disch := decide) only [dm_in, dm_dn]
    by_cases hec : e = c
    · rw [hec, dm_fs, E_t2, dm_dv]
      have b := b_c.2.1 (by have := hT.1; omega)
      rw [ht1, dm_nx2 hd1] at b
      rw [ht1]
      refine ⟨fun z => absurd z (by have := hT.1; omega), fun _ => by rw [dm_nx2 hd1]; exact b, fun _ _ _ _ => ?_⟩
      simp only [and_self, if_true]
      have := a_c.2.2.2.2.2.2.2.2.2.2.1
      omega
    · rw [dm_fn hec, E_t2, dm_dv]
      simp only [hec, and_false, if_false, Nat.sub_zero]
      exact hB e he
theorem dm_p_inv6 (h : dm_L0 k gr ac d nd aw n nq R dI dA cu) (hc : c < 4) (hn : 1 ≤ n 7 c) (hk : k c = 6) : dm_phi (dm_i (dm_d n 7 c) 8 c) nq gr + 1 ≤ dm_phi n nq gr + 0 := by
  have e1 := dm_ds (n := n) (t := 7) hc hn
  have e2 := dm_is (n := (dm_d n 7 c)) (t := 8) hc
  try simp (disch := decide) only [dm_in, dm_dn] at e1 e2
  simp (disch := decide) only [dm_phi, dm_in, dm_dn]
  omega
theorem dm_t_inv7 (h : dm_L0 k gr ac d nd aw n nq R dI dA cu) (hc : c < 4) (hn : 1 ≤ n 7 c) (hk : k c = 7) :
    dm_L0 (dm_fu k c 10) gr ac d nd aw (dm_i (dm_d n 7 c) 8 c) nq R dI dA cu := by
  obtain ⟨hA, hT, hB⟩ := h
  have a_c := hA c hc
  have b_c := hB c hc
  have hT0 := hT
  simp only [dm_LT] at hT
  have hl := dm_s4_le (f := n 7) hc
  have ht1 : dm_s4 (fun x => dm_t2 (k x)) = 1 := by
    have : ¬ dm_s4 (fun x => dm_t2 (k x)) = 0 := fun z => by have := hT.2.2.2.2.2.2.1 z; omega
    have := hT.2.1; omega
  have hd1 : dI ≠ 1 := fun z => by have := hT.2.2.2.2.2.2.2.2.1 ht1 z; omega
  have hcR : c ≠ R := fun z => by have := a_c.2.2.2.2.2.2.2.2.2.2.2 z; omega
  have e_t2 := dm_s4_g dm_t2 (f := k) (v := 10) hc
  have e_ow := dm_s4_g dm_ow (f := k) (v := 10) hc
  have e_sh := dm_s4_g dm_sh (f := k) (v := 10) hc
  have e_dt := dm_s4_g dm_dt (f := k) (v := 10) hc
  have q0 := dm_tab7
  simp only [hk] at a_c b_c e_t2 e_ow e_sh e_dt
  have q1 := dm_tab10
  have E_t2 : dm_s4 (fun x => dm_t2 (dm_fu k c 10 x)) = dm_s4 (fun x => dm_t2 (k x)) := by omega
  have E_ow : dm_s4 (fun x => dm_ow (dm_fu k c 10 x)) = dm_s4 (fun x => dm_ow (k x)) := by omega
  have E_sh : dm_s4 (fun x => dm_sh (dm_fu k c 10 x)) + 1 = dm_s4 (fun x => dm_sh (k x)) := by omega
  have E_dt : dm_s4 (fun x => dm_dt (dm_fu k c 10 x)) = dm_s4 (fun x => dm_dt (k x)) := by omega
  have e1 := dm_ds (n := n) (t := 7) hc hn
  have e2 := dm_is (n := (dm_d n 7 c)) (t := 8) hc
  try simp (disch := decide) only [dm_in, dm_dn] at e1 e2
  refine ⟨fun e he => ?_, ?_, fun e he => ?_⟩
  · by_cases hec : e = c
    · rw [hec]
      obtain ⟨x1, x2, x3, x4, x5, x6, x7, x8, x9, x10, x11, x12⟩ := a_c
      simp only [dm_A, dm_iv, dm_dv, dm_fs, and_self, and_true, true_and, if_true, reduceIte, Nat.reduceEqDiff, false_and, and_false, if_false, Nat.add_zero, Nat.sub_zero, hk]
      refine ⟨?_, ?_, ?_, ?_, ?_, ?_, ?_, ?_, ?_, ?_, ?_, ?_⟩ <;> (intros; first | trivial | omega)
    · have a := hA e he
      simpa only [dm_fn hec, dm_iv, dm_dv, hec, and_false, if_false, Nat.add_zero, Nat.sub_zero] using a
  · simp (disch := decide) only [dm_LT, dm_in, dm_dn]
    rw [E_t2, E_ow, E_dt, e2, dm_fn (Ne.symm hcR)]
    rw [← e1] at hT
    exact dm_nT_inv hT (by omega)
  · try simp (disch := decide) only [dm_in, dm_dn]
    by_cases hec : e = c
    · rw [hec, dm_fs, E_t2, dm_dv]
      have b := b_c.2.1 (by have := hT.1; omega)
      rw [ht1, dm_nx2 hd1] at b
      rw [ht1]
      refine ⟨fun z => absurd z (by have := hT.1; omega), fun _ => by rw [dm_nx2 hd1]; exact b, fun _ _ _ _ => ?_⟩
      simp only [and_self, if_true]
      have := a_c.2.2.2.2.2.2.2.2.2.2.1
      omega
    · rw [dm_fn hec, E_t2, dm_dv]
      simp only [hec, and_false, if_false, Nat.sub_zero]
      exact hB e he
theorem dm_p_inv7 (h : dm_L0 k gr ac d nd aw n nq R dI dA cu) (hc : c < 4) (hn : 1 ≤ n 7 c) (hk : k c = 7) : dm_phi (dm_i (dm_d n 7 c) 8 c) nq gr + 1 ≤ dm_phi n nq gr + 0 := by
  have e1 := dm_ds (n := n) (t := 7) hc hn
  have e2 := dm_is (n := (dm_d n 7 c)) (t := 8) hc
  try simp (disch := decide) only [dm_in, dm_dn] at e1 e2
  simp (disch := decide) only [dm_phi, dm_in, dm_dn]
  omega
theorem dm_t_fwds2 (h : dm_L0 k gr ac d nd aw n nq R dI dA cu) (hc : c < 4) (hR : R < 4) (hn : 1 ≤ n 5 c) (hk : k c = 2) :
    dm_L0 (dm_fu k c 1) gr ac d nd aw (dm_i (dm_i (dm_d n 5 c) 9 R) 4 c) nq R dI 0 cu := by
  obtain ⟨hA, hT, hB⟩ := h
  have a_c := hA c hc
  have b_c := hB c hc
  have a_R := hA R hR
  have b_R := hB R hR
  have hT0 := hT
  simp only [dm_LT] at hT
  have hl := dm_s4_le (f := n 5) hc
  have hsr := dm_T_src hT (by omega)
  have hwo : dm_ow (k c) = 1 := by rw [hk]; rfl
  have hex := dm_ex1 hT0 hc hwo
  have hR3 := hT.2.2.2.2.2.2.2.1 hsr.1
  have hcR : c ≠ R := fun z => by rw [← z, hk] at hR3; omega
  have hr2 : dm_t2 (k R) = 1 := by
    have : k R = 11 ∨ k R = 12 ∨ k R = 13 := by omega
    rcases this with e | e | e <;> rw [e] <;> rfl
  have l9 := dm_s4_le (f := n 9) hR
  have l10 := dm_s4_le (f := n 10) hR
  have lg := dm_s4_le (f := gr) hR
  have lc5 := dm_s4_le (f := n 5) hc
  have lc6 := dm_s4_le (f := n 6) hc
  have e_t2 := dm_s4_g dm_t2 (f := k) (v := 1) hc
  have e_ow := dm_s4_g dm_ow (f := k) (v := 1) hc
  have e_sh := dm_s4_g dm_sh (f := k) (v := 1) hc
  have e_dt := dm_s4_g dm_dt (f := k) (v := 1) hc
  have q0 := dm_tab2
  simp only [hk] at a_c b_c e_t2 e_ow e_sh e_dt
  have q1 := dm_tab1
  have E_t2 : dm_s4 (fun x => dm_t2 (dm_fu k c 1 x)) = dm_s4 (fun x => dm_t2 (k x)) := by omega
  have E_ow : dm_s4 (fun x => dm_ow (dm_fu k c 1 x)) + 1 = dm_s4 (fun x => dm_ow (k x)) := by omega
  have E_sh : dm_s4 (fun x => dm_sh (dm_fu k c 1 x)) = dm_s4 (fun x => dm_sh (k x)) + 1 := by omega
  have E_dt : dm_s4 (fun x => dm_dt (dm_fu k c 1 x)) = dm_s4 (fun x => dm_dt (k x)) := by omega
  have e1 := dm_ds (n := n) (t := 5) hc hn
  have e2 := dm_is (n := (dm_d n 5 c)) (t := 9) hR
  have e3 := dm_is (n := (dm_i (dm_d n 5 c) 9 R)) (t := 4) hc
  try simp (disch := decide) only [dm_in, dm_dn] at e1 e2 e3
  have hd1 : dI = 1 := by have q := hT; rw [← e1] at q; exact (dm_nT_fwds (OW' := dm_s4 (fun x => dm_ow (dm_fu k c 1 x))) (DT' := 0) (SH' := 0) q (by omega) (by omega)).1
  refine ⟨fun e he => ?_, ?_, fun e he => ?_⟩
  · by_cases hec : e = c
    · rw [hec]
      obtain ⟨x1, x2, x3, x4, x5, x6, x7, x8, x9, x10, x11, x12⟩ := a_c
      simp only [dm_A, dm_iv, dm_dv, dm_fs, and_self, and_true, true_and, if_true, reduceIte, Nat.reduceEqDiff, false_and, and_false, if_false, Nat.add_zero, Nat.sub_zero, hk, hcR, Ne.symm hcR]
      refine ⟨?_, ?_, ?_, ?_, ?_, ?_, ?_, ?_, ?_, ?_, ?_, ?_⟩ <;> (intros; first | trivial | omega)
    · have a := hA e he
      obtain ⟨x1, x2, x3, x4, x5, x6, x7, x8, x9, x10, x11, x12⟩ := a
      by_cases heR : e = R
      · subst heR
        simp only [dm_A, dm_fn hec, dm_iv, dm_dv, hec, and_false, if_false, Nat.add_zero, Nat.sub_zero, reduceIte, Nat.reduceEqDiff, false_and, true_and, and_self, if_true]
        refine ⟨?_, ?_, ?_, ?_, ?_, ?_, ?_, ?_, ?_, ?_, ?_, ?_⟩ <;> (intros; first | trivial | omega)
      · simp only [dm_A, dm_fn hec, dm_iv, dm_dv, hec, heR, and_false, if_false, Nat.add_zero, Nat.sub_zero, reduceIte, Nat.reduceEqDiff, false_and, true_and]
        refine ⟨?_, ?_, ?_, ?_, ?_, ?_, ?_, ?_, ?_, ?_, ?_, ?_⟩ <;> (intros; first | trivial | omega)
  · simp (disch := decide) only [dm_LT, dm_in, dm_dn]
    rw [E_t2, e2, e3, dm_fn (Ne.symm hcR)]
    rw [← e1] at hT
    exact (dm_nT_fwds hT (by omega) (by omega)).2
  · try simp (disch := decide) only [dm_in, dm_dn]
    by_cases hec : e = c
    · rw [hec, dm_fs, E_t2, hsr.1]
      have b := b_c.2.1 (by have := hT.1; omega)
      rw [hsr.1, hd1, dm_nx1, if_neg hcR] at b
      refine ⟨fun z => absurd z (by have := hT.1; omega), fun _ => ?_, fun _ z => absurd hd1 z⟩
      rw [hd1, dm_nx1, if_neg hcR, b]
      have q2 := dm_tab2
      rw [if_neg (by omega), if_neg (by omega)]
    · rw [dm_fn hec, E_t2]
      exact hB e he
theorem dm_p_fwds2 (h : dm_L0 k gr ac d nd aw n nq R dI dA cu) (hc : c < 4) (hR : R < 4) (hn : 1 ≤ n 5 c) (hk : k c = 2) : dm_phi (dm_i (dm_i (dm_d n 5 c) 9 R) 4 c) nq gr + 1 ≤ dm_phi n nq gr + 0 := by
  have e1 := dm_ds (n := n) (t := 5) hc hn
  have e2 := dm_is (n := (dm_d n 5 c)) (t := 9) hR
  have e3 := dm_is (n := (dm_i (dm_d n 5 c) 9 R)) (t := 4) hc
  try simp (disch := decide) only [dm_in, dm_dn] at e1 e2 e3
  simp (disch := decide) only [dm_phi, dm_in, dm_dn]
  omega
theorem dm_t_fwds3 (h : dm_L0 k gr ac d nd aw n nq R dI dA cu) (hc : c < 4) (hR : R < 4) (hn : 1 ≤ n 5 c) (hk : k c = 3) :
    dm_L0 (dm_fu k c 1) gr ac d nd aw (dm_i (dm_i (dm_d n 5 c) 9 R) 4 c) nq R dI 0 cu := by
  obtain ⟨hA, hT, hB⟩ := h
  have a_c := hA c hc
  have b_c := hB c hc
  have a_R := hA R hR
  have b_R := hB R hR
  have hT0 := hT
  simp only [dm_LT] at hT
  have hl := dm_s4_le (f := n 5) hc
  have hsr := dm_T_src hT (by omega)
  have hwo : dm_ow (k c) = 1 := by rw [hk]; rfl
  have hex := dm_ex1 hT0 hc hwo
  have hR3 := hT.2.2.2.2.2.2.2.1 hsr.1
  have hcR : c ≠ R := fun z => by rw [← z, hk] at hR3; omega
  have hr2 : dm_t2 (k R) = 1 := by
    have : k R = 11 ∨ k R = 12 ∨ k R = 13 := by omega
    rcases this with e | e | e <;> rw [e] <;> rfl
  have l9 := dm_s4_le (f := n 9) hR
  have l10 := dm_s4_le (f := n 10) hR
  have lg := dm_s4_le (f := gr) hR
  have lc5 := dm_s4_le (f := n 5) hc
  have lc6 := dm_s4_le (f := n 6) hc
  have e_t2 := dm_s4_g dm_t2 (f := k) (v := 1) hc
  have e_ow := dm_s4_g dm_ow (f := k) (v := 1) hc
  have e_sh := dm_s4_g dm_sh (f := k) (v := 1) hc
  have e_dt := dm_s4_g dm_dt (f := k) (v := 1) hc
  have q0 := dm_tab3
  simp only [hk] at a_c b_c e_t2 e_ow e_sh e_dt
  have q1 := dm_tab1
  have E_t2 : dm_s4 (fun x => dm_t2 (dm_fu k c 1 x)) = dm_s4 (fun x => dm_t2 (k x)) := by omega
  have E_ow : dm_s4 (fun x => dm_ow (dm_fu k c 1 x)) + 1 = dm_s4 (fun x => dm_ow (k x)) := by omega
  have E_sh : dm_s4 (fun x => dm_sh (dm_fu k c 1 x)) = dm_s4 (fun x => dm_sh (k x)) + 1 := by omega
  have E_dt : dm_s4 (fun x => dm_dt (dm_fu k c 1 x)) + 1 = dm_s4 (fun x => dm_dt (k x)) := by omega
  have e1 := dm_ds (n := n) (t := 5) hc hn
  have e2 := dm_is (n := (dm_d n 5 c)) (t := 9) hR
  have e3 := dm_is (n := (dm_i (dm_d n 5 c) 9 R)) (t := 4) hc
  try simp (disch := decide) only [dm_in, dm_dn] at e1 e2 e3
  have hd1 : dI = 1 := by have q := hT; rw [← e1] at q; exact (dm_nT_fwds (OW' := dm_s4 (fun x => dm_ow (dm_fu k c 1 x))) (DT' := 0) (SH' := 0) q (by omega) (by omega)).1
  refine ⟨fun e he => ?_, ?_, fun e he => ?_⟩
  · by_cases hec : e = c
    · rw [hec]
      obtain ⟨x1, x2, x3, x4, x5, x6, x7, x8, x9, x10, x11, x12⟩ := a_c
      simp only [dm_A, dm_iv, dm_dv, dm_fs, and_self, and_true, true_and, if_true, reduceIte, Nat.reduceEqDiff, false_and, and_false, if_false, Nat.add_zero, Nat.sub_zero, hk, hcR, Ne.symm hcR]
      refine ⟨?_, ?_, ?_, ?_, ?_, ?_, ?_, ?_, ?_, ?_, ?_, ?_⟩ <;> (intros; first | trivial | omega)
    · have a := hA e he
      obtain ⟨x1, x2, x3, x4, x5, x6, x7, x8, x9, x10, x11, x12⟩ := a
      by_cases heR : e = R
      · subst heR
        simp only [dm_A, dm_fn hec, dm_iv, dm_dv, hec, and_false, if_false, Nat.add_zero, Nat.sub_zero, reduceIte, Nat.reduceEqDiff, false_and, true_and, and_self, if_true]
        refine ⟨?_, ?_, ?_, ?_, ?_, ?_, ?_, ?_, ?_, ?_, ?_, ?_⟩ <;> (intros; first | trivial | omega)
      · simp only [dm_A, dm_fn hec, dm_iv, dm_dv, hec, heR, and_false, if_false, Nat.add_zero, Nat.sub_zero, reduceIte, Nat.reduceEqDiff, false_and, true_and]
        refine ⟨?_, ?_, ?_, ?_, ?_, ?_, ?_, ?_, ?_, ?_, ?_, ?_⟩ <;> (intros; first | trivial | omega)
  · simp (disch := decide) only [dm_LT, dm_in, dm_dn]
    rw [E_t2, e2, e3, dm_fn (Ne.symm hcR)]
    rw [← e1] at hT
    exact (dm_nT_fwds hT (by omega) (by omega)).2
  · try simp (disch := decide) only [dm_in, dm_dn]
    by_cases hec : e = c
    · rw [hec, dm_fs, E_t2, hsr.1]
      have b := b_c.2.1 (by have := hT.1; omega)
      rw [hsr.1, hd1, dm_nx1, if_neg hcR] at b
      refine ⟨fun z => absurd z (by have := hT.1; omega), fun _ => ?_, fun _ z => absurd hd1 z⟩
      rw [hd1, dm_nx1, if_neg hcR, b]
      have q2 := dm_tab3
      rw [if_neg (by omega), if_neg (by omega)]
    · rw [dm_fn hec, E_t2]
      exact hB e he
theorem dm_p_fwds3 (h : dm_L0 k gr ac d nd aw n nq R dI dA cu) (hc : c < 4) (hR : R < 4) (hn : 1 ≤ n 5 c) (hk : k c = 3) : dm_phi (dm_i (dm_i (dm_d n 5 c) 9 R) 4 c) nq gr + 1 ≤ dm_phi n nq gr + 0 := by
  have e1 := dm_ds (n := n) (t := 5) hc hn
  have e2 := dm_is (n := (dm_d n 5 c)) (t := 9) hR
  have e3 := dm_is (n := (dm_i (dm_d n 5 c) 9 R)) (t := 4) hc
  try simp (disch := decide) only [dm_in, dm_dn] at e1 e2 e3
  simp (disch := decide) only [dm_phi, dm_in, dm_dn]
  omega
theorem dm_t_fwds8 (h : dm_L0 k gr ac d nd aw n nq R dI dA cu) (hc : c < 4) (hR : R < 4) (hn : 1 ≤ n 5 c) (hk : k c = 8) :
    dm_L0 (dm_fu k c 7) gr ac d nd aw (dm_i (dm_i (dm_d n 5 c) 9 R) 4 c) nq R dI 0 cu := by
  obtain ⟨hA, hT, hB⟩ := h
  have a_c := hA c hc
  have b_c := hB c hc
  have a_R := hA R hR
  have b_R := hB R hR
  have hT0 := hT
  simp only [dm_LT] at hT
  have hl := dm_s4_le (f := n 5) hc
  have hsr := dm_T_src hT (by omega)
  have hwo : dm_ow (k c) = 1 := by rw [hk]; rfl
  have hex := dm_ex1 hT0 hc hwo
  have hR3 := hT.2.2.2.2.2.2.2.1 hsr.1
  have hcR : c ≠ R := fun z => by rw [← z, hk] at hR3; omega
  have hr2 : dm_t2 (k R) = 1 := by
    have : k R = 11 ∨ k R = 12 ∨ k R = 13 := by omega
    rcases this with e | e | e <;> rw [e] <;> rfl
  have l9 := dm_s4_le (f := n 9) hR
  have l10 := dm_s4_le (f := n 10) hR
  have lg := dm_s4_le (f := gr) hR
  have lc5 := dm_s4_le (f := n 5) hc
  have lc6 := dm_s4_le (f := n 6) hc
  have e_t2 := dm_s4_g dm_t2 (f := k) (v := 7) hc
  have e_ow := dm_s4_g dm_ow (f := k) (v := 7) hc
  have e_sh := dm_s4_g dm_sh (f := k) (v := 7) hc
  have e_dt := dm_s4_g dm_dt (f := k) (v := 7) hc
  have q0 := dm_tab8
  simp only [hk] at a_c b_c e_t2 e_ow e_sh e_dt
  have q1 := dm_tab7
  have E_t2 : dm_s4 (fun x => dm_t2 (dm_fu k c 7 x)) = dm_s4 (fun x => dm_t2 (k x)) := by omega
  have E_ow : dm_s4 (fun x => dm_ow (dm_fu k c 7 x)) + 1 = dm_s4 (fun x => dm_ow (k x)) := by omega
  have E_sh : dm_s4 (fun x => dm_sh (dm_fu k c 7 x)) = dm_s4 (fun x => dm_sh (k x)) + 1 := by omega
  have E_dt : dm_s4 (fun x => dm_dt (dm_fu k c 7 x)) = dm_s4 (fun x => dm_dt (k x)) := by omega
  have e1 := dm_ds (n := n) (t := 5) hc hn
  have e2 := dm_is (n := (dm_d n 5 c)) (t := 9) hR
  have e3 := dm_is (n := (dm_i (dm_d n 5 c) 9 R)) (t := 4) hc
  try simp (disch := decide) only [dm_in, dm_dn] at e1 e2 e3
  have hd1 : dI = 1 := by have q := hT; rw [← e1] at q; exact (dm_nT_fwds (OW' := dm_s4 (fun x => dm_ow (dm_fu k c 7 x))) (DT' := 0) (SH' := 0) q (by omega) (by omega)).1
  refine ⟨fun e he => ?_, ?_, fun e he => ?_⟩
  · by_cases hec : e = c
    · rw [hec]
      obtain ⟨x1, x2, x3, x4, x5, x6, x7, x8, x9, x10, x11, x12⟩ := a_c
      simp only [dm_A, dm_iv, dm_dv, dm_fs, and_self, and_true, true_and, if_true, reduceIte, Nat.reduceEqDiff, false_and, and_false, if_false, Nat.add_zero, Nat.sub_zero, hk, hcR, Ne.symm hcR]
      refine ⟨?_, ?_, ?_, ?_, ?_, ?_, ?_, ?_, ?_, ?_, ?_, ?_⟩ <;> (intros; first | trivial | omega)
    · have a := hA e he
      obtain ⟨x1, x2, x3, x4, x5, x6, x7, x8, x9, x10, x11, x12⟩ := a
      by_cases heR : e = R
      · subst heR
        simp only [dm_A, dm_fn hec, dm_iv, dm_dv, hec, and_false, if_false, Nat.add_zero, Nat.sub_zero, reduceIte, Nat.reduceEqDiff, false_and, true_and, and_self, if_true]
        refine ⟨?_, ?_, ?_, ?_, ?_, ?_, ?_, ?_, ?_, ?_, ?_, ?_⟩ <;> (intros; first | trivial | omega)
      · simp only [dm_A, dm_fn hec, dm_iv, dm_dv, hec, heR, and_false, if_false, Nat.add_zero, Nat.sub_zero, reduceIte, Nat.reduceEqDiff, false_and, true_and]
        refine ⟨?_, ?_, ?_, ?_, ?_, ?_, ?_, ?_, ?_, ?_, ?_, ?_⟩ <;> (intros; first | trivial | omega)
  · simp (disch := decide) only [dm_LT, dm_in, dm_dn]
    rw [E_t2, e2, e3, dm_fn (Ne.symm hcR)]
    rw [← e1] at hT
    exact (dm_nT_fwds hT (by omega) (by omega)).2
  · try simp (disch := decide) only [dm_in, dm_dn]
    by_cases hec : e = c
    · rw [hec, dm_fs, E_t2, hsr.1]
      have b := b_c.2.1 (by have := hT.1; omega)
      rw [hsr.1, hd1, dm_nx1, if_neg hcR] at b
      refine ⟨fun z => absurd z (by have := hT.1; omega), fun _ => ?_, fun _ z => absurd hd1 z⟩
      rw [hd1, dm_nx1, if_neg hcR, b]
      have q2 := dm_tab8
      rw [if_neg (by omega), if_neg (by omega)]
    · rw [dm_fn hec, E_t2]
      exact hB e he
theorem dm_p_fwds8 (h : dm_L0 k gr ac d nd aw n nq R dI dA cu) (hc : c < 4) (hR : R < 4) (hn : 1 ≤ n 5 c) (hk : k c = 8) : dm_phi (dm_i (dm_i (dm_d n 5 c) 9 R) 4 c) nq gr + 1 ≤ dm_phi n nq gr + 0 := by
  have e1 := dm_ds (n := n) (t := 5) hc hn
  have e2 := dm_is (n := (dm_d n 5 c)) (t := 9) hR
  have e3 := dm_is (n := (dm_i (dm_d n 5 c) 9 R)) (t := 4) hc
  try simp (disch := decide) only [dm_in, dm_dn] at e1 e2 e3
  simp (disch := decide) only [dm_phi, dm_in, dm_dn]
  omega
theorem dm_t_fwds9 (h : dm_L0 k gr ac d nd aw n nq R dI dA cu) (hc : c < 4) (hR : R < 4) (hn : 1 ≤ n 5 c) (hk : k c = 9) :
    dm_L0 (dm_fu k c 7) gr ac d nd aw (dm_i (dm_i (dm_d n 5 c) 9 R) 4 c) nq R dI 0 cu := by
  obtain ⟨hA, hT, hB⟩ := h
  have a_c := hA c hc
  have b_c := hB c hc
  have a_R := hA R hR
  have b_R := hB R hR
  have hT0 := hT
  simp only [dm_LT] at hT
  have hl := dm_s4_le (f := n 5) hc
  have hsr := dm_T_src hT (by omega)
  have hwo : dm_ow (k c) = 1 := by rw [hk]; rfl
  have hex := dm_ex1 hT0 hc hwo
  have hR3 := hT.2.2.2.2.2.2.2.1 hsr.1
  have hcR : c ≠ R := fun z => by rw [← z, hk] at hR3; omega
  have hr2 : dm_t2 (k R) = 1 := by
    have : k R = 11 ∨ k R = 12 ∨ k R = 13 := by omega
    rcases this with e | e | e <;> rw [e] <;> rfl
  have l9 := dm_s4_le (f := n 9) hR
  have l10 := dm_s4_le (f := n 10) hR
  have lg := dm_s4_le (f := gr) hR
  have lc5 := dm_s4_le (f := n 5) hc
  have lc6 := dm_s4_le (f := n 6) hc
  have e_t2 := dm_s4_g dm_t2 (f := k) (v := 7) hc
  have e_ow := dm_s4_g dm_ow (f := k) (v := 7) hc
  have e_sh := dm_s4_g dm_sh (f := k) (v := 7) hc
  have e_dt := dm_s4_g dm_dt (f := k) (v := 7) hc
  have q0 := dm_tab9
  simp only [hk] at a_c b_c e_t2 e_ow e_sh e_dt
  have q1 := dm_tab7
  have E_t2 : dm_s4 (fun x => dm_t2 (dm_fu k c 7 x)) = dm_s4 (fun x => dm_t2 (k x)) := by omega
  have E_ow : dm_s4 (fun x => dm_ow (dm_fu k c 7 x)) + 1 = dm_s4 (fun x => dm_ow (k x)) := by omega
  have E_sh : dm_s4 (fun x => dm_sh (dm_fu k c 7 x)) = dm_s4 (fun x => dm_sh (k x)) + 1 := by omega
  have E_dt : dm_s4 (fun x => dm_dt (dm_fu k c 7 x)) + 1 = dm_s4 (fun x => dm_dt (k x)) := by omega
  have e1 := dm_ds (n := n) (t := 5) hc hn
  have e2 := dm_is (n := (dm_d n 5 c)) (t := 9) hR
  have e3 := dm_is (n := (dm_i (dm_d n 5 c) 9 R)) (t := 4) hc
  try simp (disch := decide) only [dm_in, dm_dn] at e1 e2 e3
  have hd1 : dI = 1 := by have q := hT; rw [← e1] at q; exact (dm_nT_fwds (OW' := dm_s4 (fun x => dm_ow (dm_fu k c 7 x))) (DT' := 0) (SH' := 0) q (by omega) (by omega)).1
  refine ⟨fun e he => ?_, ?_, fun e he => ?_⟩
  · by_cases hec : e = c
    · rw [hec]
      obtain ⟨x1, x2, x3, x4, x5, x6, x7, x8, x9, x10, x11, x12⟩ := a_c
      simp only [dm_A, dm_iv, dm_dv, dm_fs, and_self, and_true, true_and, if_true, reduceIte, Nat.reduceEqDiff, false_and, and_false, if_false, Nat.add_zero, Nat.sub_zero, hk, hcR, Ne.symm hcR]
      refine ⟨?_, ?_, ?_, ?_, ?_, ?_, ?_, ?_, ?_, ?_, ?_, ?_⟩ <;> (intros; first | trivial | omega)
    · have a := hA e he
      obtain ⟨x1, x2, x3, x4, x5, x6, x7, x8, x9, x10, x11, x12⟩ := a
      by_cases heR : e = R
      · subst heR
        simp only [dm_A, dm_fn hec, dm_iv, dm_dv, hec, and_false, if_false, Nat.add_zero, Nat.sub_zero, reduceIte, Nat.reduceEqDiff, false_and, true_and, and_self, if_true]
        refine ⟨?_, ?_, ?_, ?_, ?_, ?_, ?_, ?_, ?_, ?_, ?_, ?_⟩ <;> (intros; first | trivial | omega)
      · simp only [dm_A, dm_fn hec, dm_iv, dm_dv, hec, heR, and_false, if_false, Nat.add_zero, Nat.sub_zero, reduceIte, Nat.reduceEqDiff, false_and, true_and]
        refine ⟨?_, ?_, ?_, ?_, ?_, ?_, ?_, ?_, ?_, ?_, ?_, ?_⟩ <;> (intros; first | trivial | omega)
  · simp (disch := decide) only [dm_LT, dm_in, dm_dn]
    rw [E_t2, e2, e3, dm_fn (Ne.symm hcR)]
    rw [← e1] at hT
    exact (dm_nT_fwds hT (by omega) (by omega)).2
  · try simp (disch := decide) only [dm_in, dm_dn]
    by_cases hec : e = c
    · rw [hec, dm_fs, E_t2, hsr.1]
      have b := b_c.2.1 (by have := hT.1; omega)
      rw [hsr.1, hd1, dm_nx1, if_neg hcR] at b
      refine ⟨fun z => absurd z (by have := hT.1; omega), fun _ => ?_, fun _ z => absurd hd1 z⟩
      rw [hd1, dm_nx1, if_neg hcR, b]
      have q2 := dm_tab9
      rw [if_neg (by omega), if_neg (by omega)]
    · rw [dm_fn hec, E_t2]
      exact hB e he
theorem dm_p_fwds9 (h : dm_L0 k gr ac d nd aw n nq R dI dA cu) (hc : c < 4) (hR : R < 4) (hn : 1 ≤ n 5 c) (hk : k c = 9) : dm_phi (dm_i (dm_i (dm_d n 5 c) 9 R) 4 c) nq gr + 1 ≤ dm_phi n nq gr + 0 := by
  have e1 := dm_ds (n := n) (t := 5) hc hn
  have e2 := dm_is (n := (dm_d n 5 c)) (t := 9) hR
  have e3 := dm_is (n := (dm_i (dm_d n 5 c) 9 R)) (t := 4) hc
  try simp (disch := decide) only [dm_in, dm_dn] at e1 e2 e3
  simp (disch := decide) only [dm_phi, dm_in, dm_dn]
  omega
theorem dm_t_fwdm2 (h : dm_L0 k gr ac d nd aw n nq R dI dA cu) (hc : c < 4) (hR : R < 4) (hn : 1 ≤ n 6 c) (hk : k c = 2) :
    dm_L0 (dm_fu k c 0) gr ac d nd aw (dm_i (dm_d n 6 c) 9 R) nq R 2 0 cu := by
  obtain ⟨hA, hT, hB⟩ := h
  have a_c := hA c hc
  have b_c := hB c hc
  have a_R := hA R hR
  have b_R := hB R hR
  have hT0 := hT
  simp only [dm_LT] at hT
  have hl := dm_s4_le (f := n 6) hc
  have hsr := dm_T_src hT (by omega)
  have hwo : dm_ow (k c) = 1 := by rw [hk]; rfl
  have hex := dm_ex1 hT0 hc hwo
  have hR3 := hT.2.2.2.2.2.2.2.1 hsr.1
  have hcR : c ≠ R := fun z => by rw [← z, hk] at hR3; omega
  have hr2 : dm_t2 (k R) = 1 := by
    have : k R = 11 ∨ k R = 12 ∨ k R = 13 := by omega
    rcases this with e | e | e <;> rw [e] <;> rfl
  have l9 := dm_s4_le (f := n 9) hR
  have l10 := dm_s4_le (f := n 10) hR
  have lg := dm_s4_le (f := gr) hR
  have lc5 := dm_s4_le (f := n 5) hc
  have lc6 := dm_s4_le (f := n 6) hc
  have e_t2 := dm_s4_g dm_t2 (f := k) (v := 0) hc
  have e_ow := dm_s4_g dm_ow (f := k) (v := 0) hc
  have e_sh := dm_s4_g dm_sh (f := k) (v := 0) hc
  have e_dt := dm_s4_g dm_dt (f := k) (v := 0) hc
  have q0 := dm_tab2
  simp only [hk] at a_c b_c e_t2 e_ow e_sh e_dt
  have q1 := dm_tab0
  have E_t2 : dm_s4 (fun x => dm_t2 (dm_fu k c 0 x)) = dm_s4 (fun x => dm_t2 (k x)) := by omega
  have E_ow : dm_s4 (fun x => dm_ow (dm_fu k c 0 x)) + 1 = dm_s4 (fun x => dm_ow (k x)) := by omega
  have E_sh : dm_s4 (fun x => dm_sh (dm_fu k c 0 x)) = dm_s4 (fun x => dm_sh (k x)) := by omega
  have E_dt : dm_s4 (fun x => dm_dt (dm_fu k c 0 x)) = dm_s4 (fun x => dm_dt (k x)) := by omega
  have e1 := dm_ds (n := n) (t := 6) hc hn
  have e2 := dm_is (n := (dm_d n 6 c)) (t := 9) hR
  try simp (disch := decide) only [dm_in, dm_dn] at e1 e2
  have hd1 : dI ≠ 1 := by have q := hT; rw [← e1] at q; exact (dm_nT_fwdm (OW' := dm_s4 (fun x => dm_ow (dm_fu k c 0 x))) (DT' := 0) (SH' := 0) (dI' := 2) q (by omega) (by omega) (Or.inl rfl)).1
  have hIV : dm_s4 (n 7) = 0 := by have := (hT.2.2.2.2.2.2.2.2.2.2.2.2.2.2.2.2.2.1 (by omega)).2; omega
  refine ⟨fun e he => ?_, ?_, fun e he => ?_⟩
  · by_cases hec : e = c
    · rw [hec]
      obtain ⟨x1, x2, x3, x4, x5, x6, x7, x8, x9, x10, x11, x12⟩ := a_c
      simp only [dm_A, dm_iv, dm_dv, dm_fs, and_self, and_true, true_and, if_true, reduceIte, Nat.reduceEqDiff, false_and, and_false, if_false, Nat.add_zero, Nat.sub_zero, hk, hcR, Ne.symm hcR]
      refine ⟨?_, ?_, ?_, ?_, ?_, ?_, ?_, ?_, ?_, ?_, ?_, ?_⟩ <;> (intros; first | trivial | omega)
    · have a := hA e he
      obtain ⟨x1, x2, x3, x4, x5, x6, x7, x8, x9, x10, x11, x12⟩ := a
      by_cases heR : e = R
      · subst heR
        simp only [dm_A, dm_fn hec, dm_iv, dm_dv, hec, and_false, if_false, Nat.add_zero, Nat.sub_zero, reduceIte, Nat.reduceEqDiff, false_and, true_and, and_self, if_true]
        refine ⟨?_, ?_, ?_, ?_, ?_, ?_, ?_, ?_, ?_, ?_, ?_, ?_⟩ <;> (intros; first | trivial | omega)
      · simp only [dm_A, dm_fn hec, dm_iv, dm_dv, hec, heR, and_false, if_false, Nat.add_zero, Nat.sub_zero, reduceIte, Nat.reduceEqDiff, false_and, true_and]
        refine ⟨?_, ?_, ?_, ?_, ?_, ?_, ?_, ?_, ?_, ?_, ?_, ?_⟩ <;> (intros; first | trivial | omega)
  · simp (disch := decide) only [dm_LT, dm_in, dm_dn]
    rw [E_t2, e2, dm_fn (Ne.symm hcR)]
    rw [← e1] at hT
    exact (dm_nT_fwdm hT (by omega) (by omega) (Or.inl rfl)).2
  · try simp (disch := decide) only [dm_in, dm_dn]
    by_cases hec : e = c
    · rw [hec, dm_fs, E_t2, hsr.1]
      have b := b_c.2.1 (by have := hT.1; omega)
      rw [hsr.1, dm_nx2 hd1, if_neg hcR] at b
      refine ⟨fun z => absurd z (by have := hT.1; omega), fun _ => by rw [dm_nx2 (by decide), if_neg hcR, b], fun _ _ _ _ => ?_⟩
      have l7 := dm_s4_le (f := n 7) hc
      omega
    · rw [dm_fn hec, E_t2, hsr.1]
      have b := (hB e he).2.1 (by have := hT.1; omega)
      rw [hsr.1, dm_nx2 hd1] at b
      refine ⟨fun z => absurd z (by have := hT.1; omega), fun _ => by rw [dm_nx2 (by decide), b], fun _ _ _ _ => ?_⟩
      have l7 := dm_s4_le (f := n 7) he
      have := hex e he hec
      omega
theorem dm_p_fwdm2 (h : dm_L0 k gr ac d nd aw n nq R dI dA cu) (hc : c < 4) (hR : R < 4) (hn : 1 ≤ n 6 c) (hk : k c = 2) : dm_phi (dm_i (dm_d n 6 c) 9 R) nq gr + 1 ≤ dm_phi n nq gr + 0 := by
  have e1 := dm_ds (n := n) (t := 6) hc hn
  have e2 := dm_is (n := (dm_d n 6 c)) (t := 9) hR
  try simp (disch := decide) only [dm_in, dm_dn] at e1 e2
  simp (disch := decide) only [dm_phi, dm_in, dm_dn]
  omega
theorem dm_t_fwdm3 (h : dm_L0 k gr ac d nd aw n nq R dI dA cu) (hc : c < 4) (hR : R < 4) (hn : 1 ≤ n 6 c) (hk : k c = 3) :
    dm_L0 (dm_fu k c 0) gr ac d nd aw (dm_i (dm_d n 6 c) 9 R) nq R 3 0 cu := by
  obtain ⟨hA, hT, hB⟩ := h
  have a_c := hA c hc
  have b_c := hB c hc
  have a_R := hA R hR
  have b_R := hB R hR
  have hT0 := hT
  simp only [dm_LT] at hT
  have hl := dm_s4_le (f := n 6) hc
  have hsr := dm_T_src hT (by omega)
  have hwo : dm_ow (k c) = 1 := by rw [hk]; rfl
  have hex := dm_ex1 hT0 hc hwo
  have hR3 := hT.2.2.2.2.2.2.2.1 hsr.1
  have hcR : c ≠ R := fun z => by rw [← z, hk] at hR3; omega
  have hr2 : dm_t2 (k R) = 1 := by
    have : k R = 11 ∨ k R = 12 ∨ k R = 13 := by omega
    rcases this with e | e | e <;> rw [e] <;> rfl
  have l9 := dm_s4_le (f := n 9) hR
  have l10 := dm_s4_le (f := n 10) hR
  have lg := dm_s4_le (f := gr) hR
  have lc5 := dm_s4_le (f := n 5) hc
  have lc6 := dm_s4_le (f := n 6) hc
  have e_t2 := dm_s4_g dm_t2 (f := k) (v := 0) hc
  have e_ow := dm_s4_g dm_ow (f := k) (v := 0) hc
  have e_sh := dm_s4_g dm_sh (f := k) (v := 0) hc
  have e_dt := dm_s4_g dm_dt (f := k) (v := 0) hc
  have q0 := dm_tab3
  simp only [hk] at a_c b_c e_t2 e_ow e_sh e_dt
  have q1 := dm_tab0
  have E_t2 : dm_s4 (fun x => dm_t2 (dm_fu k c 0 x)) = dm_s4 (fun x => dm_t2 (k x)) := by omega
  have E_ow : dm_s4 (fun x => dm_ow (dm_fu k c 0 x)) + 1 = dm_s4 (fun x => dm_ow (k x)) := by omega
  have E_sh : dm_s4 (fun x => dm_sh (dm_fu k c 0 x)) = dm_s4 (fun x => dm_sh (k x)) := by omega
  have E_dt : dm_s4 (fun x => dm_dt (dm_fu k c 0 x)) + 1 = dm_s4 (fun x => dm_dt (k x)) := by omega
  have e1 := dm_ds (n := n) (t := 6) hc hn
  have e2 := dm_is (n := (dm_d n 6 c)) (t := 9) hR
  try simp (disch := decide) only [dm_in, dm_dn] at e1 e2
  have hd1 : dI ≠ 1 := by have q := hT; rw [← e1] at q; exact (dm_nT_fwdm (OW' := dm_s4 (fun x => dm_ow (dm_fu k c 0 x))) (DT' := 0) (SH' := 0) (dI' := 2) q (by omega) (by omega) (Or.inl rfl)).1
  have hIV : dm_s4 (n 7) = 0 := by have := (hT.2.2.2.2.2.2.2.2.2.2.2.2.2.2.2.2.2.1 (by omega)).2; omega
  refine ⟨fun e he => ?_, ?_, fun e he => ?_⟩
  · by_cases hec : e = c
    · rw [hec]
      obtain ⟨x1, x2, x3, x4, x5, x6, x7, x8, x9, x10, x11, x12⟩ := a_c
      simp only [dm_A, dm_iv, dm_dv, dm_fs, and_self, and_true, true_and, if_true, reduceIte, Nat.reduceEqDiff, false_and, and_false, if_false, Nat.add_zero, Nat.sub_zero, hk, hcR, Ne.symm hcR]
      refine ⟨?_, ?_, ?_, ?_, ?_, ?_, ?_, ?_, ?_, ?_, ?_, ?_⟩ <;> (intros; first | trivial | omega)
    · have a := hA e he
      obtain ⟨x1, x2, x3, x4, x5, x6, x7, x8, x9, x10, x11, x12⟩ := a
      by_cases heR : e = R
      · subst heR
        simp only [dm_A, dm_fn hec, dm_iv, dm_dv, hec, and_false, if_false, Nat.add_zero, Nat.sub_zero, reduceIte, Nat.reduceEqDiff, false_and, true_and, and_self, if_true]
        refine ⟨?_, ?_, ?_, ?_, ?_, ?_, ?_, ?_, ?_, ?_, ?_, ?_⟩ <;> (intros; first | trivial | omega)
      · simp only [dm_A, dm_fn hec, dm_iv, dm_dv, hec, heR, and_false, if_false, Nat.add_zero, Nat.sub_zero, reduceIte, Nat.reduceEqDiff, false_and, true_and]
        refine ⟨?_, ?_, ?_, ?_, ?_, ?_, ?_, ?_, ?_, ?_, ?_, ?_⟩ <;> (intros; first | trivial | omega)
  · simp (disch := decide) only [dm_LT, dm_in, dm_dn]
    rw [E_t2, e2, dm_fn (Ne.symm hcR)]
    rw [← e1] at hT
    exact (dm_nT_fwdm hT (by omega) (by omega) (Or.inr ⟨rfl, by omega⟩)).2
  · try simp (disch := decide) only [dm_in, dm_dn]
    by_cases hec : e = c
    · rw [hec, dm_fs, E_t2, hsr.1]
      have b := b_c.2.1 (by have := hT.1; omega)
      rw [hsr.1, dm_nx2 hd1, if_neg hcR] at b
      refine ⟨fun z => absurd z (by have := hT.1; omega), fun _ => by rw [dm_nx2 (by decide), if_neg hcR, b], fun _ _ _ _ => ?_⟩
      have l7 := dm_s4_le (f := n 7) hc
      omega
    · rw [dm_fn hec, E_t2, hsr.1]
      have b := (hB e he).2.1 (by have := hT.1; omega)
      rw [hsr.1, dm_nx2 hd1] at b
      refine ⟨fun z => absurd z (by have := hT.1; omega), fun _ => by rw [dm_nx2 (by decide), b], fun _ _ _ _ => ?_⟩
      have l7 := dm_s4_le (f := n 7) he
      have := hex e he hec
      omega
theorem dm_p_fwdm3 (h : dm_L0 k gr ac d nd aw n nq R dI dA cu) (hc : c < 4) (hR : R < 4) (hn : 1 ≤ n 6 c) (hk : k c = 3) : dm_phi (dm_i (dm_d n 6 c) 9 R) nq gr + 1 ≤ dm_phi n nq gr + 0 := by
  have e1 := dm_ds (n := n) (t := 6) hc hn
  have e2 := dm_is (n := (dm_d n 6 c)) (t := 9) hR
  try simp (disch := decide) only [dm_in, dm_dn] at e1 e2
  simp (disch := decide) only [dm_phi, dm_in, dm_dn]
  omega
theorem dm_t_fwdm8 (h : dm_L0 k gr ac d nd aw n nq R dI dA cu) (hc : c < 4) (hR : R < 4) (hn : 1 ≤ n 6 c) (hk : k c = 8) :
    dm_L0 (dm_fu k c 10) gr ac d nd aw (dm_i (dm_d n 6 c) 9 R) nq R 2 0 cu := by
  obtain ⟨hA, hT, hB⟩ := h
  have a_c := hA c hc
  have b_c := hB c hc
  have a_R := hA R hR
  have b_R := hB R hR
  have hT0 := hT
  simp only [dm_LT] at hT
  have hl := dm_s4_le (f := n 6) hc
  have hsr := dm_T_src hT (by omega)
  have hwo : dm_ow (k c) = 1 := by rw [hk]; rfl
  have hex := dm_ex1 hT0 hc hwo
  have hR3 := hT.2.2.2.2.2.2.2.1 hsr.1
  have hcR : c ≠ R := fun z => by rw [← z, hk] at hR3; omega
  have hr2 : dm_t2 (k R) = 1 := by
    have : k R = 11 ∨ k R = 12 ∨ k R = 13 := by omega
    rcases this with e | e | e <;> rw [e] <;> rfl
  have l9 := dm_s4_le (f := n 9) hR
  have l10 := dm_s4_le (f := n 10) hR
  have lg := dm_s4_le (f := gr) hR
  have lc5 := dm_s4_le (f := n 5) hc
  have lc6 := dm_s4_le (f := n 6) hc
  have e_t2 := dm_s4_g dm_t2 (f := k) (v := 10) hc
  have e_ow := dm_s4_g dm_ow (f := k) (v := 10) hc
  have e_sh := dm_s4_g dm_sh (f := k) (v := 10) hc
  have e_dt := dm_s4_g dm_dt (f := k) (v := 10) hc
  have q0 := dm_tab8
  simp only [hk] at a_c b_c e_t2 e_ow e_sh e_dt
  have q1 := dm_tab10
  have E_t2 : dm_s4 (fun x => dm_t2 (dm_fu k c 10 x)) = dm_s4 (fun x => dm_t2 (k x)) := by omega
  have E_ow : dm_s4 (fun x => dm_ow (dm_fu k c 10 x)) + 1 = dm_s4 (fun x => dm_ow (k x)) := by omega
  have E_sh : dm_s4 (fun x => dm_sh (dm_fu k c 10 x)) = dm_s4 (fun x => dm_sh (k x)) := by omega
  have E_dt : dm_s4 (fun x => dm_dt (dm_fu k c 10 x)) = dm_s4 (fun x => dm_dt (k x)) := by omega
  have e1 := dm_ds (n := n) (t := 6) hc hn
  have e2 := dm_is (n := (dm_d n 6 c)) (t := 9) hR
  try simp (disch := decide) only [dm_in, dm_dn] at e1 e2
  have hd1 : dI ≠ 1 := by have q := hT; rw [← e1] at q; exact (dm_nT_fwdm (OW' := dm_s4 (fun x => dm_ow (dm_fu k c 10 x))) (DT' := 0) (SH' := 0) (dI' := 2) q (by omega) (by omega) (Or.inl rfl)).1
  have hIV : dm_s4 (n 7) = 0 := by have := (hT.2.2.2.2.2.2.2.2.2.2.2.2.2.2.2.2.2.1 (by omega)).2; omega
  refine ⟨fun e he => ?_, ?_, fun e he => ?_⟩
  · by_cases hec : e = c
    · rw [hec]
      obtain ⟨x1, x2, x3, x4, x5, x6, x7, x8, x9, x10, x11, x12⟩ := a_c
      simp only [dm_A, dm_iv, dm_dv, dm_fs, and_self, and_true, true_and, if_true, reduceIte, Nat.reduceEqDiff, false_and, and_false, if_false, Nat.add_zero, Nat.sub_zero, hk, hcR, Ne.symm hcR]
      refine ⟨?_, ?_, ?_, ?_, ?_, ?_, ?_, ?_, ?_, ?_, ?_, ?_⟩ <;> (intros; first | trivial | omega)
    · have a := hA e he
      obtain ⟨x1, x2, x3, x4, x5, x6, x7, x8, x9, x10, x11, x12⟩ := a
      by_cases heR : e = R
      · subst heR
        simp only [dm_A, dm_fn hec, dm_iv, dm_dv, hec, and_false, if_false, Nat.add_zero, Nat.sub_zero, reduceIte, Nat.reduceEqDiff, false_and, true_and, and_self, if_true]
        refine ⟨?_, ?_, ?_, ?_, ?_, ?_, ?_, ?_, ?_, ?_, ?_, ?_⟩ <;> (intros; first | trivial | omega)
      · simp only [dm_A, dm_fn hec, dm_iv, dm_dv, hec, heR, and_false, if_false, Nat.add_zero, Nat.sub_zero, reduceIte, Nat.reduceEqDiff, false_and, true_and]
        refine ⟨?_, ?_, ?_, ?_, ?_, ?_, ?_, ?_, ?_, ?_, ?_, ?_⟩ <;> (intros; first | trivial | omega)
  · simp (disch := decide) only [dm_LT, dm_in, dm_dn]
    rw [E_t2, e2, dm_fn (Ne.symm hcR)]
    rw [← e1] at hT
    exact (dm_nT_fwdm hT (by omega) (by omega) (Or.inl rfl)).2
  · try simp (disch := decide) only [dm_in, dm_dn]
    by_cases hec : e = c
    · rw [hec, dm_fs, E_t2, hsr.1]
      have b := b_c.2.1 (by have := hT.1; omega)
      rw [hsr.1, dm_nx2 hd1, if_neg hcR] at b
      refine ⟨fun z => absurd z (by have := hT.1; omega), fun _ => by rw [dm_nx2 (by decide), if_neg hcR, b], fun _ _ _ _ => ?_⟩
      have l7 := dm_s4_le (f := n 7) hc
      omega
    · rw [dm_fn hec, E_t2, hsr.1]
      have b := (hB e he).2.1 (by have := hT.1; omega)
      rw [hsr.1, dm_nx2 hd1] at b
      refine ⟨fun z => absurd z (by have := hT.1; omega), fun _ => by rw [dm_nx2 (by decide), b], fun _ _ _ _ => ?_⟩
      have l7 := dm_s4_le (f := n 7) he
      have := hex e he hec
      omega
theorem dm_p_fwdm8 (h : dm_L0 k gr ac d nd aw n nq R dI dA cu) (hc : c < 4) (hR : R < 4) (hn : 1 ≤ n 6 c) (hk : k c = 8) : dm_phi (dm_i (dm_d n 6 c) 9 R) nq gr + 1 ≤ dm_phi n nq gr + 0 := by
  have e1 := dm_ds (n := n) (t := 6) hc hn
  have e2 := dm_is (n := (dm_d n 6 c)) (t := 9) hR
  try simp (disch := decide) only [dm_in, dm_dn] at e1 e2
  simp (disch := decide) only [dm_phi, dm_in, dm_dn]
  omega
theorem dm_t_fwdm9 (h : dm_L0 k gr ac d nd aw n nq R dI dA cu) (hc : c < 4) (hR : R < 4) (hn : 1 ≤ n 6 c) (hk : k c = 9) :
    dm_L0 (dm_fu k c 10) gr ac d nd aw (dm_i (dm_d n 6 c) 9 R) nq R 3 0 cu := by
  obtain ⟨hA, hT, hB⟩ := h
  have a_c := hA c hc
  have b_c := hB c hc
  have a_R := hA R hR
  have b_R := hB R hR
  have hT0 := hT
  simp only [dm_LT] at hT
  have hl := dm_s4_le (f := n 6) hc
  have hsr := dm_T_src hT (by omega)
  have hwo : dm_ow (k c) = 1 := by rw [hk]; rfl
  have hex := dm_ex1 hT0 hc hwo
  have hR3 := hT.2.2.2.2.2.2.2.1 hsr.1
  have hcR : c ≠ R := fun z => by rw [← z, hk] at hR3; omega
  have hr2 : dm_t2 (k R) = 1 := by
    have : k R = 11 ∨ k R = 12 ∨ k R = 13 := by omega
    rcases this with e | e | e <;> rw [e] <;> rfl
  have l9 := dm_s4_le (f := n 9) hR
  have l10 := dm_s4_le (f := n 10) hR
  have lg := dm_s4_le (f := gr) hR
  have lc5 := dm_s4_le (f := n 5) hc
  have lc6 := dm_s4_le (f := n 6) hc
  have e_t2 := dm_s4_g dm_t2 (f := k) (v := 10) hc
  have e_ow := dm_s4_g dm_ow (f := k) (v := 10) hc
  have e_sh := dm_s4_g dm_sh (f := k) (v := 10) hc
  have e_dt := dm_s4_g dm_dt (f := k) (v := 10) hc
  have q0 := dm_tab9
  simp only [hk] at a_c b_c e_t2 e_ow e_sh e_dt
  have q1 := dm_tab10
  have E_t2 : dm_s4 (fun x => dm_t2 (dm_fu k c 10 x)) = dm_s4 (fun x => dm_t2 (k x)) := by omega
  have E_ow : dm_s4 (fun x => dm_ow (dm_fu k c 10 x)) + 1 = dm_s4 (fun x => dm_ow (k x)) := by omega
  have E_sh : dm_s4 (fun x => dm_sh (dm_fu k c 10 x)) = dm_s4 (fun x => dm_sh (k x)) := by omega
  have E_dt : dm_s4 (fun x => dm_dt (dm_fu k c 10 x)) + 1 = dm_s4 (fun x => dm_dt (k x)) := by omega
  have e1 := dm_ds (n := n) (t := 6) hc hn
  have e2 := dm_is (n := (dm_d n 6 c)) (t := 9) hR
  try simp (disch := decide) only [dm_in, dm_dn] at e1 e2
  have hd1 : dI ≠ 1 := by have q := hT; rw [← e1] at q; exact (dm_nT_fwdm (OW' := dm_s4 (fun x => dm_ow (dm_fu k c 10 x))) (DT' := 0) (SH' := 0) (dI' := 2) q (by omega) (by omega) (Or.inl rfl)).1
  have hIV : dm_s4 (n 7) = 0 := by have := (hT.2.2.2.2.2.2.2.2.2.2.2.2.2.2.2.2.2.1 (by omega)).2; omega
  refine ⟨fun e he => ?_, ?_, fun e he => ?_⟩
  · by_cases hec : e = c
    · rw [hec]
      obtain ⟨x1, x2, x3, x4, x5, x6, x7, x8, x9, x10, x11, x12⟩ := a_c
      simp only [dm_A, dm_iv, dm_dv, dm_fs, and_self, and_true, true_and, if_true, reduceIte, Nat.reduceEqDiff, false_and, and_false, if_false, Nat.add_zero, Nat.sub_zero, hk, hcR, Ne.symm hcR]
      refine ⟨?_, ?_, ?_, ?_, ?_, ?_, ?_, ?_, ?_, ?_, ?_, ?_⟩ <;> (intros; first | trivial | omega)
    · have a := hA e he
      obtain ⟨x1, x2, x3, x4, x5, x6, x7, x8, x9, x10, x11, x12⟩ := a
      by_cases heR : e = R
      · subst heR
        simp only [dm_A, dm_fn hec, dm_iv, dm_dv, hec, and_false, if_false, Nat.add_zero, Nat.sub_zero, reduceIte, Nat.reduceEqDiff, false_and, true_and, and_self, if_true]
        refine ⟨?_, ?_, ?_, ?_, ?_, ?_, ?_, ?_, ?_, ?_, ?_, ?_⟩ <;> (intros; first | trivial | omega)
      · simp only [dm_A, dm_fn hec, dm_iv, dm_dv, hec, heR, and_false, if_false, Nat.add_zero, Nat.sub_zero, reduceIte, Nat.reduceEqDiff, false_and, true_and]
        refine ⟨?_, ?_, ?_, ?_, ?_, ?_, ?_, ?_, ?_, ?_, ?_, ?_⟩ <;> (intros; first | trivial | omega)
  · simp (disch := decide) only [dm_LT, dm_in, dm_dn]
    rw [E_t2, e2, dm_fn (Ne.symm hcR)]
    rw [← e1] at hT
    exact (dm_nT_fwdm hT (by omega) (by omega) (Or.inr ⟨rfl, by omega⟩)).2
  · try simp (disch := decide) only [dm_in, dm_dn]
    by_cases hec : e = c
    · rw [hec, dm_fs, E_t2, hsr.1]
      have b := b_c.2.1 (by have := hT.1; omega)
      rw [hsr.1, dm_nx2 hd1, if_neg hcR] at b
      refine ⟨fun z => absurd z (by have := hT.1; omega), fun _ => by rw [dm_nx2 (by decide), if_neg hcR, b], fun _ _ _ _ => ?_⟩
      have l7 := dm_s4_le (f := n 7) hc
      omega
    · rw [dm_fn hec, E_t2, hsr.1]
      have b := (hB e he).2.1 (by have := hT.1; omega)
      rw [hsr.1, dm_nx2 hd1] at b
      refine ⟨fun z => absurd z (by have := hT.1; omega), fun _ => by rw [dm_nx2 (by decide), b], fun _ _ _ _ => ?_⟩
      have l7 := dm_s4_le (f := n 7) he
      have := hex e he hec
      omega
theorem dm_p_fwdm9 (h : dm_L0 k gr ac d nd aw n nq R dI dA cu) (hc : c < 4) (hR : R < 4) (hn : 1 ≤ n 6 c) (hk : k c = 9) : dm_phi (dm_i (dm_d n 6 c) 9 R) nq gr + 1 ≤ dm_phi n nq gr + 0 := by
  have e1 := dm_ds (n := n) (t := 6) hc hn
  have e2 := dm_is (n := (dm_d n 6 c)) (t := 9) hR
  try simp (disch := decide) only [dm_in, dm_dn] at e1 e2
  simp (disch := decide) only [dm_phi, dm_in, dm_dn]
  omega
end
end
section
/-- the invalidations sent to the cores below j -/
def dm_iv7 (n : Nat → Nat → Nat) (c : Nat) (d : Nat → Nat) (j : Nat) : Nat → Nat → Nat := dm_fu n 7 (fun x => if x < j ∧ x ≠ c ∧ d x = 1 then n 7 x + 1 else n 7 x)
def dm_oth (c : Nat) (d : Nat → Nat) : Nat → Nat
  | 0 => 0
  | j + 1 => dm_oth c d j + if j ≠ c ∧ d j = 1 then 1 else 0
theorem dm_iv7_0 {n : Nat → Nat → Nat} {c : Nat} {d : Nat → Nat} : dm_iv7 n c d 0 = n := by
  funext t x; by_cases h : t = 7
  · subst h; rw [dm_iv7, dm_fs, if_neg (by omega)]
  · rw [dm_iv7, dm_fn h]
theorem dm_iv7_n {n : Nat → Nat → Nat} {c j t : Nat} {d : Nat → Nat} (h : t ≠ 7) : dm_iv7 n c d j t = n t := dm_fn h
theorem dm_iv7_v {n : Nat → Nat → Nat} {c j x : Nat} {d : Nat → Nat} : dm_iv7 n c d j 7 x = if x < j ∧ x ≠ c ∧ d x = 1 then n 7 x + 1 else n 7 x := by rw [dm_iv7, dm_fs]
theorem dm_iv7_s {n : Nat → Nat → Nat} {c j : Nat} {d : Nat → Nat} (h : j ≠ c ∧ d j = 1) : dm_iv7 n c d (j + 1) = dm_i (dm_iv7 n c d j) 7 j := by
  funext t x; by_cases ht : t = 7
  · subst ht; rw [dm_iv, dm_iv7_v, dm_iv7_v]
    by_cases hx : x = j
    · subst hx; rw [if_pos ⟨by omega, h⟩, if_neg (by omega), if_pos ⟨rfl, rfl⟩]
    · rw [if_neg (c := 7 = 7 ∧ x = j) (fun z => hx z.2), Nat.add_zero]
      by_cases hq : x < j ∧ x ≠ c ∧ d x = 1
      · rw [if_pos hq, if_pos ⟨by omega, hq.2⟩]
      · rw [if_neg hq, if_neg (fun z => hq ⟨by omega, z.2⟩)]; try rfl
  · rw [dm_in ht, dm_iv7_n ht, dm_iv7_n ht]
theorem dm_iv7_k {n : Nat → Nat → Nat} {c j : Nat} {d : Nat → Nat} (h : ¬ (j ≠ c ∧ d j = 1)) : dm_iv7 n c d (j + 1) = dm_iv7 n c d j := by
  funext t x; by_cases ht : t = 7
  · subst ht; rw [dm_iv7_v, dm_iv7_v]
    by_cases hx : x = j
    · subst hx; rw [if_neg (fun z => h z.2), if_neg (fun z => h z.2)]
    · by_cases hq : x < j ∧ x ≠ c ∧ d x = 1
      · rw [if_pos hq, if_pos ⟨by omega, hq.2⟩]
      · rw [if_neg hq, if_neg (fun z => hq ⟨by omega, z.2⟩)]
  · rw [dm_iv7_n ht, dm_iv7_n ht]
theorem dm_iv7_c {n : Nat → Nat → Nat} {c j m : Nat} {d : Nat → Nat} (h : ∀ x, j ≤ x → x < j + m → ¬ d x = 1) : dm_iv7 n c d (j + m) = dm_iv7 n c d j ∧ dm_oth c d (j + m) = dm_oth c d j := by
  induction m with
  | zero => exact ⟨rfl, rfl⟩
  | succ m ih =>
    have q := ih fun x h1 h2 => h x h1 (by omega)
    have h1 := h (j + m) (by omega) (by omega)
    refine ⟨(dm_iv7_k (fun z => h1 z.2)).trans q.1, ?_⟩
    show dm_oth c d (j + m) + _ = _
    rw [if_neg (fun z => h1 z.2), q.2]; try rfl
theorem dm_oth4 {c : Nat} {d : Nat → Nat} : dm_oth c d 4 ≤ 4 := by
  simp only [dm_oth]; split <;> split <;> split <;> split <;> omega
theorem dm_iv7_sum {n : Nat → Nat → Nat} {c : Nat} {d : Nat → Nat} : dm_s4 (dm_iv7 n c d 4 7) = dm_s4 (n 7) + dm_oth c d 4 := by
  simp only [dm_s4, dm_oth, dm_iv7_v]
  simp only [show (0 : Nat) < 4 from by decide, show (1 : Nat) < 4 from by decide, show (2 : Nat) < 4 from by decide, show (3 : Nat) < 4 from by decide, true_and]
  split <;> split <;> split <;> split <;> omega
section
variable {k gr d nd : Nat → Nat} {ac : Nat → Int} {aw : Nat} {n nq : Nat → Nat → Nat} {R dI dA cu c o : Nat}
theorem dm_t_swD (h : dm_L0 k gr ac d nd aw n nq R dI dA cu) (hc : c < 4) (hn : 1 ≤ nq 1 c) (hw : aw = 0) (hd : ∀ o, o < 4 → d o ≠ 2) (hk : k c = 5) :
    dm_L0 (dm_fu k c 12) gr ac d (fun x => if x = c then 2 else 0) 1 (dm_i (dm_iv7 n c d 4) 9 c) (dm_d nq 1 c) c 2 (dm_oth c d 4) cu := by
  obtain ⟨hA, hT, hB⟩ := h
  have a_c := hA c hc
  have hT0 := hT
  simp only [dm_LT] at hT
  subst hw
  have hoo : ∀ e, e < 4 → dm_ro (k e) ≠ 2 := fun e he => by have := (hB e he).1 rfl; have := hd e he; omega
  have hOW := dm_noow (k := k) (fun e he => (dm_ro_le (hoo e he)).1)
  have e_t2 := dm_s4_g dm_t2 (f := k) (v := 12) hc
  have e_ow := dm_s4_g dm_ow (f := k) (v := 12) hc
  have e_sh := dm_s4_g dm_sh (f := k) (v := 12) hc
  have e_dt := dm_s4_g dm_dt (f := k) (v := 12) hc
  have q0 := dm_tab5
  have q1 := dm_tab12
  simp only [hk] at a_c e_t2 e_ow e_sh e_dt
  have hac : ac c = 0 := a_c.2.2.2.2.2.2.2.1 (by omega)
  have z1 := dm_idle hT0 c hc
  have E_ow : dm_s4 (fun x => dm_ow (dm_fu k c 12 x)) = dm_s4 (fun x => dm_ow (k x)) := by omega
  have E_sh : dm_s4 (fun x => dm_sh (dm_fu k c 12 x)) = dm_s4 (fun x => dm_sh (k x)) := by omega
  have E_dt : dm_s4 (fun x => dm_dt (dm_fu k c 12 x)) = dm_s4 (fun x => dm_dt (k x)) := by omega
  have E_t2 : dm_s4 (fun x => dm_t2 (dm_fu k c 12 x)) = dm_s4 (fun x => dm_t2 (k x)) + 1 := by omega
  have hT2 : dm_s4 (fun x => dm_t2 (dm_fu k c 12 x)) = 1 := by have := (dm_T_idle hT0).1; omega
  have e1 := dm_is (n := dm_iv7 n c d 4) (t := 9) hc
  rw [dm_iv7_n (by decide)] at e1
  have e2 := dm_iv7_sum (n := n) (c := c) (d := d)
  refine ⟨fun e he => ?_, ?_, fun e he => ?_⟩
  · simp (disch := decide) only [dm_iv, dm_iv7_n, dm_iv7_v]
    by_cases hec : e = c
    · rw [hec]
      obtain ⟨x1, x2, x3, x4, x5, x6, x7, x8, x9, x10, x11, x12⟩ := a_c
      simp only [dm_A, dm_dv, dm_fs, and_self, and_true, true_and, if_true, reduceIte, Nat.reduceEqDiff, false_and, and_false, if_false, Nat.add_zero, Nat.sub_zero, hk, ne_eq, not_true_eq_false]
      refine ⟨?_, ?_, ?_, ?_, ?_, ?_, ?_, ?_, ?_, ?_, ?_, ?_⟩ <;> (intros; first | trivial | omega)
    · have a := hA e he
      have z := dm_idle hT0 e he
      have b := (hB e he).1 rfl
      have r := dm_ro_le (hoo e he)
      obtain ⟨x1, x2, x3, x4, x5, x6, x7, x8, x9, x10, x11, x12⟩ := a
      simp only [dm_A, dm_fn hec, dm_dv, hec, and_false, if_false, Nat.add_zero, Nat.sub_zero, reduceIte, Nat.reduceEqDiff, false_and, true_and, he, ne_eq, not_false_eq_true]
      by_cases hd1 : d e = 1
      · simp only [hd1, if_true]
        refine ⟨?_, ?_, ?_, ?_, ?_, ?_, ?_, ?_, ?_, ?_, ?_, ?_⟩ <;> (intros; first | trivial | omega)
      · simp only [hd1, if_false]
        refine ⟨?_, ?_, ?_, ?_, ?_, ?_, ?_, ?_, ?_, ?_, ?_, ?_⟩ <;> (intros; first | trivial | omega)
  · simp only [dm_LT]
    simp (disch := decide) only [dm_in, dm_iv7_n]
    rw [E_t2, E_ow, E_sh, E_dt, e1, e2, dm_fs, hac]
    exact dm_nT_swD hT hOW hc
  · simp (disch := decide) only [dm_in, dm_iv7_n]
    rw [hT2]
    by_cases hec : e = c
    · rw [hec, dm_fs]
      exact ⟨fun z => absurd z (by decide), fun _ => by rw [dm_nx2 (by decide)], fun _ _ _ z => absurd rfl z⟩
    · rw [dm_fn hec]
      refine ⟨fun z => absurd z (by decide), fun _ => by rw [dm_nx2 (by decide)], fun _ _ _ _ => ?_⟩
      rw [dm_iv7_v]
      have z := dm_idle hT0 e he
      have b := (hB e he).1 rfl
      have r := dm_ro_le (hoo e he)
      by_cases hd1 : d e = 1
      · rw [if_pos ⟨he, hec, hd1⟩]; omega
      · rw [if_neg (fun y => hd1 y.2.2)]; omega
theorem dm_p_swD (hc : c < 4) (hn : 1 ≤ nq 1 c) (h7 : dm_oth c d 4 ≤ 3) : dm_phi (dm_i (dm_iv7 n c d 4) 9 c) (dm_d nq 1 c) gr + 0 ≤ dm_phi n nq gr + 0 := by
  have e1 := dm_is (n := dm_iv7 n c d 4) (t := 9) hc
  rw [dm_iv7_n (by decide)] at e1
  have e2 := dm_iv7_sum (n := n) (c := c) (d := d)
  have e3 := dm_ds (n := nq) (t := 1) hc hn
  simp (disch := decide) only [dm_phi, dm_in, dm_dn, dm_iv7_n]
  omega
theorem dm_t_swG (h : dm_L0 k gr ac d nd aw n nq R dI dA cu) (hc : c < 4) (hn : 1 ≤ nq 1 c) (hw : aw = 0) (hd : ∀ o, o < 4 → d o ≠ 2) (hk : k c = 6) :
    dm_L0 (dm_fu k c 13) gr ac d (fun x => if x = c then 2 else 0) 1 (dm_i (dm_iv7 n c d 4) 10 c) (dm_d nq 1 c) c 2 (dm_oth c d 4) cu := by
  obtain ⟨hA, hT, hB⟩ := h
  have a_c := hA c hc
  have hT0 := hT
  simp only [dm_LT] at hT
  subst hw
  have hoo : ∀ e, e < 4 → dm_ro (k e) ≠ 2 := fun e he => by have := (hB e he).1 rfl; have := hd e he; omega
  have hOW := dm_noow (k := k) (fun e he => (dm_ro_le (hoo e he)).1)
  have e_t2 := dm_s4_g dm_t2 (f := k) (v := 13) hc
  have e_ow := dm_s4_g dm_ow (f := k) (v := 13) hc
  have e_sh := dm_s4_g dm_sh (f := k) (v := 13) hc
  have e_dt := dm_s4_g dm_dt (f := k) (v := 13) hc
  have q0 := dm_tab6
  have q1 := dm_tab13
  simp only [hk] at a_c e_t2 e_ow e_sh e_dt
  have hac : ac c = 0 := a_c.2.2.2.2.2.2.2.1 (by omega)
  have z1 := dm_idle hT0 c hc
  have E_ow : dm_s4 (fun x => dm_ow (dm_fu k c 13 x)) = dm_s4 (fun x => dm_ow (k x)) := by omega
  have E_sh : dm_s4 (fun x => dm_sh (dm_fu k c 13 x)) = dm_s4 (fun x => dm_sh (k x)) := by omega
  have E_dt : dm_s4 (fun x => dm_dt (dm_fu k c 13 x)) = dm_s4 (fun x => dm_dt (k x)) := by omega
  have E_t2 : dm_s4 (fun x => dm_t2 (dm_fu k c 13 x)) = dm_s4 (fun x => dm_t2 (k x)) + 1 := by omega
  have hT2 : dm_s4 (fun x => dm_t2 (dm_fu k c 13 x)) = 1 := by have := (dm_T_idle hT0).1; omega
  have e1 := dm_is (n := dm_iv7 n c d 4) (t := 10) hc
  rw [dm_iv7_n (by decide)] at e1
  have e2 := dm_iv7_sum (n := n) (c := c) (d := d)
  refine ⟨fun e he => ?_, ?_, fun e he => ?_⟩
  · simp (disch := decide) only [dm_iv, dm_iv7_n, dm_iv7_v]
    by_cases hec : e = c
    · rw [hec]
      obtain ⟨x1, x2, x3, x4, x5, x6, x7, x8, x9, x10, x11, x12⟩ := a_c
      simp only [dm_A, dm_dv, dm_fs, and_self, and_true, true_and, if_true, reduceIte, Nat.reduceEqDiff, false_and, and_false, if_false, Nat.add_zero, Nat.sub_zero, hk, ne_eq, not_true_eq_false]
      refine ⟨?_, ?_, ?_, ?_, ?_, ?_, ?_, ?_, ?_, ?_, ?_, ?_⟩ <;> (intros; first | trivial | omega)
    · have a := hA e he
      have z := dm_idle hT0 e he
      have b := (hB e he).1 rfl
      have r := dm_ro_le (hoo e he)
      obtain ⟨x1, x2, x3, x4, x5, x6, x7, x8, x9, x10, x11, x12⟩ := a
      simp only [dm_A, dm_fn hec, dm_dv, hec, and_false, if_false, Nat.add_zero, Nat.sub_zero, reduceIte, Nat.reduceEqDiff, false_and, true_and, he, ne_eq, not_false_eq_true]
      by_cases hd1 : d e = 1
      · simp only [hd1, if_true]
        refine ⟨?_, ?_, ?_, ?_, ?_, ?_, ?_, ?_, ?_, ?_, ?_, ?_⟩ <;> (intros; first | trivial | omega)
      · simp only [hd1, if_false]
        refine ⟨?_, ?_, ?_, ?_, ?_, ?_, ?_, ?_, ?_, ?_, ?_, ?_⟩ <;> (intros; first | trivial | omega)
  · simp only [dm_LT]
    simp (disch := decide) only [dm_in, dm_iv7_n]
    rw [E_t2, E_ow, E_sh, E_dt, e1, e2, dm_fs, hac]
    exact dm_nT_swG hT hOW hc
  · simp (disch := decide) only [dm_in, dm_iv7_n]
    rw [hT2]
    by_cases hec : e = c
    · rw [hec, dm_fs]
      exact ⟨fun z => absurd z (by decide), fun _ => by rw [dm_nx2 (by decide)], fun _ _ _ z => absurd rfl z⟩
    · rw [dm_fn hec]
      refine ⟨fun z => absurd z (by decide), fun _ => by rw [dm_nx2 (by decide)], fun _ _ _ _ => ?_⟩
      rw [dm_iv7_v]
      have z := dm_idle hT0 e he
      have b := (hB e he).1 rfl
      have r := dm_ro_le (hoo e he)
      by_cases hd1 : d e = 1
      · rw [if_pos ⟨he, hec, hd1⟩]; omega
      · rw [if_neg (fun y => hd1 y.2.2)]; omega
theorem dm_p_swG (hc : c < 4) (hn : 1 ≤ nq 1 c) (h7 : dm_oth c d 4 ≤ 3) : dm_phi (dm_i (dm_iv7 n c d 4) 10 c) (dm_d nq 1 c) gr + 0 ≤ dm_phi n nq gr + 0 := by
  have e1 := dm_is (n := dm_iv7 n c d 4) (t := 10) hc
  rw [dm_iv7_n (by decide)] at e1
  have e2 := dm_iv7_sum (n := n) (c := c) (d := d)
  have e3 := dm_ds (n := nq) (t := 1) hc hn
  simp (disch := decide) only [dm_phi, dm_in, dm_dn, dm_iv7_n]
  omega
theorem dm_mc_mono {k k' : Nat → Nat} {n N : Nat → Nat → Nat} {dI dI' cu : Nat} (h4 : dm_s4 (n 4) ≤ dm_s4 (N 4)) (h9 : dm_s4 (N 9) = 0 ∨ dI' ≠ 3 → dm_s4 (n 9) = 0 ∨ dI ≠ 3) (hd : dm_s4 (fun c => dm_dt (k c)) ≤ dm_s4 (fun c => dm_dt (k' c))) (g : dm_mc k' N dI' cu) : dm_mc k n dI cu := by
  rcases g with ⟨g1, g2, g3⟩ | g
  · exact Or.inl ⟨by omega, h9 g2, by omega⟩
  · exact Or.inr g
theorem dm_oth3 (hc : c < 4) : dm_oth c d 4 ≤ 3 := by
  simp only [dm_oth]
  rcases dm_lt4 hc with rfl | rfl | rfl | rfl <;> split <;> split <;> split <;> split <;> omega
theorem dm_nT_dt {aw T2 DN CB FS FM IV AK DA GR GG OW SH DT R kR dI dA cu DT' : Nat} {aR : Int} (hu : cu ≠ 1) (h : dm_T aw T2 DN CB FS FM IV AK DA GR GG OW SH DT R kR aR dI dA cu) : dm_T aw T2 DN CB FS FM IV AK DA GR GG OW SH DT' R kR aR dI dA cu := by
  obtain ⟨t1, t2, t3, t4, t5, t6, t7, t8, t9, t10, t11, t12, t13, t14, t15, t16, t17, t18, t19⟩ := h
  exact ⟨t1, t2, t3, t4, t5, t6, t7, t8, t9, t10, t11, t12, t13, t14, t15, t16, t17, t18, fun z => absurd z hu⟩
theorem dm_t_perf (h : dm_L0 k gr ac d nd aw n nq R dI dA cu) (hc : c < 4) (hk : k c = 2 ∨ k c = 3) (hu : cu ≠ 1) :
    dm_L0 (dm_fu k c 3) gr ac d nd aw n nq R dI dA cu := by
  obtain ⟨hA, hT, hB⟩ := h
  have a_c := hA c hc
  have b_c := hB c hc
  have hT0 := hT
  simp only [dm_LT] at hT
  rcases hk with hk | hk
  · skip
    have e_t2 := dm_s4_g dm_t2 (f := k) (v := 3) hc
    have e_ow := dm_s4_g dm_ow (f := k) (v := 3) hc
    have e_sh := dm_s4_g dm_sh (f := k) (v := 3) hc
    have e_dt := dm_s4_g dm_dt (f := k) (v := 3) hc
    have q0 := dm_tab2
    simp only [hk] at a_c b_c e_t2 e_ow e_sh e_dt
    have q1 := dm_tab3
    have E_t2 : dm_s4 (fun x => dm_t2 (dm_fu k c 3 x)) = dm_s4 (fun x => dm_t2 (k x)) := by omega
    have E_ow : dm_s4 (fun x => dm_ow (dm_fu k c 3 x)) = dm_s4 (fun x => dm_ow (k x)) := by omega
    have E_sh : dm_s4 (fun x => dm_sh (dm_fu k c 3 x)) = dm_s4 (fun x => dm_sh (k x)) := by omega
    have E_dt : dm_s4 (fun x => dm_dt (dm_fu k c 3 x)) = dm_s4 (fun x => dm_dt (k x)) + 1 := by omega
    refine ⟨fun e he => ?_, ?_, fun e he => ?_⟩
    · by_cases hec : e = c
      · rw [hec]
        obtain ⟨x1, x2, x3, x4, x5, x6, x7, x8, x9, x10, x11, x12⟩ := a_c
        simp only [dm_A, dm_iv, dm_dv, dm_fs, and_self, and_true, true_and, if_true, reduceIte, Nat.reduceEqDiff, false_and, and_false, if_false, Nat.add_zero, Nat.sub_zero, hk]
        refine ⟨?_, ?_, ?_, ?_, ?_, ?_, ?_, ?_, ?_, ?_, ?_, ?_⟩ <;> (intros; first | trivial | omega)
      · have a := hA e he
        simpa only [dm_fn hec, dm_iv, dm_dv, hec, and_false, if_false, Nat.add_zero, Nat.sub_zero] using a
    · simp (disch := decide) only [dm_LT, dm_in, dm_dn]
      refine dm_nT_dt (DT := dm_s4 (fun x => dm_dt (k x))) hu ?_
      rw [E_t2, E_ow, E_sh]
      by_cases hRc : R = c
      · have hz : dm_s4 (fun x => dm_t2 (k x)) = 0 := by
          apply Classical.byContradiction
          intro z
          have h1 : dm_s4 (fun x => dm_t2 (k x)) = 1 := by have := hT.2.1; omega
          have h2 := hT.2.2.2.2.2.2.2.1 h1
          rw [hRc, hk] at h2
          omega
        exact dm_nT_kR hT hz
      · rw [dm_fn hRc]; exact hT
    · try simp (disch := decide) only [dm_in, dm_dn]
      by_cases hec : e = c
      · rw [hec, dm_fs, E_t2]
        exact dm_B_ro (by omega) b_c
      · rw [dm_fn hec, E_t2]
        exact hB e he
  · skip
    have e_t2 := dm_s4_g dm_t2 (f := k) (v := 3) hc
    have e_ow := dm_s4_g dm_ow (f := k) (v := 3) hc
    have e_sh := dm_s4_g dm_sh (f := k) (v := 3) hc
    have e_dt := dm_s4_g dm_dt (f := k) (v := 3) hc
    have q0 := dm_tab3
    simp only [hk] at a_c b_c e_t2 e_ow e_sh e_dt
    have q1 := dm_tab3
    have E_t2 : dm_s4 (fun x => dm_t2 (dm_fu k c 3 x)) = dm_s4 (fun x => dm_t2 (k x)) := by omega
    have E_ow : dm_s4 (fun x => dm_ow (dm_fu k c 3 x)) = dm_s4 (fun x => dm_ow (k x)) := by omega
    have E_sh : dm_s4 (fun x => dm_sh (dm_fu k c 3 x)) = dm_s4 (fun x => dm_sh (k x)) := by omega
    have E_dt : dm_s4 (fun x => dm_dt (dm_fu k c 3 x)) = dm_s4 (fun x => dm_dt (k x)) := by omega
    refine ⟨fun e he => ?_, ?_, fun e he => ?_⟩
    · by_cases hec : e = c
      · rw [hec]
        obtain ⟨x1, x2, x3, x4, x5, x6, x7, x8, x9, x10, x11, x12⟩ := a_c
        simp only [dm_A, dm_iv, dm_dv, dm_fs, and_self, and_true, true_and, if_true, reduceIte, Nat.reduceEqDiff, false_and, and_false, if_false, Nat.add_zero, Nat.sub_zero, hk]
        refine ⟨?_, ?_, ?_, ?_, ?_, ?_, ?_, ?_, ?_, ?_, ?_, ?_⟩ <;> (intros; first | trivial | omega)
      · have a := hA e he
        simpa only [dm_fn hec, dm_iv, dm_dv, hec, and_false, if_false, Nat.add_zero, Nat.sub_zero] using a
    · simp (disch := decide) only [dm_LT, dm_in, dm_dn]
      refine dm_nT_dt (DT := dm_s4 (fun x => dm_dt (k x))) hu ?_
      rw [E_t2, E_ow, E_sh]
      by_cases hRc : R = c
      · have hz : dm_s4 (fun x => dm_t2 (k x)) = 0 := by
          apply Classical.byContradiction
          intro z
          have h1 : dm_s4 (fun x => dm_t2 (k x)) = 1 := by have := hT.2.1; omega
          have h2 := hT.2.2.2.2.2.2.2.1 h1
          rw [hRc, hk] at h2
          omega
        exact dm_nT_kR hT hz
      · rw [dm_fn hRc]; exact hT
    · try simp (disch := decide) only [dm_in, dm_dn]
      by_cases hec : e = c
      · rw [hec, dm_fs, E_t2]
        exact dm_B_ro (by omega) b_c
      · rw [dm_fn hec, E_t2]
        exact hB e he
end
end
section
/-! the pool against the counts -/
def dm_CM (k : Nat → Nat → Nat) (V : Nat → Nat → Int32) (R dI dA : Nat → Nat) (l t c : Nat) (to co inf ak : Int32) (w : Nat → Int32) : Prop :=
  (t ≤ 4 → to = 4 ∧ co = nI c) ∧
  (t = 2 → (k l c = 9 → inf = 1 ∧ ∀ i, i < 4 → w i = V l i) ∧ (k l c = 8 → inf ≠ 1)) ∧
  (t = 4 → ∀ i, i < 4 → w i = V l i) ∧
  (5 ≤ t → t ≤ 7 → to = nI c ∧ co = nI (R l)) ∧
  (t = 8 → to = nI (R l) ∧ co = nI c) ∧
  (t = 9 → to = nI c ∧ inf = nI (dI l) ∧ ak = nI (dA l) ∧ ∀ i, i < 4 → w i = V l i) ∧
  (t = 10 → to = nI c ∧ inf = 2 ∧ ak = nI (dA l)) ∧
  (t = 11 → to = nI c)
def dm_RP (lc : Nat) (k : Nat → Nat → Nat) (V : Nat → Nat → Int32) (R dI dA : Nat → Nat) (n : Nat → Nat → Nat → Nat) (M : Nat) (ty to ln co inf ak wds : Nat → Int32) : Prop :=
  M = dm_s8 (fun l => dm_tot (n l)) ∧ ∃ ky : Nat → Nat × Nat × Nat,
    (∀ i, i < M → (ky i).1 < lc ∧ (ky i).2.1 < 12 ∧ (ky i).2.2 < 4 ∧ ln i = nI (ky i).1 ∧ ty i = nI (ky i).2.1 ∧ dm_CM k V R dI dA (ky i).1 (ky i).2.1 (ky i).2.2 (to i) (co i) (inf i) (ak i) (fun j => wds (4 * i + j))) ∧
    (∀ l t c, dm_cn ky (l, t, c) M = n l t c)
section
variable {lc M l t c s : Nat} {k : Nat → Nat → Nat} {V : Nat → Nat → Int32} {R dI dA : Nat → Nat} {n : Nat → Nat → Nat → Nat} {X : Nat → Nat → Nat} {ty to ln co inf ak wds wds' : Nat → Int32} {p1 p3 p4 p5 : Int32}
theorem dm_RP_post (h : dm_RP lc k V R dI dA (dm_fu n l X) M ty to ln co inf ak wds) (hlc : lc ≤ 8) (hl : l < lc) (ht : t < 12) (hc : c < 4)
    (hm : dm_CM k V R dI dA l t c p1 p3 p4 p5 (fun j => wds' (4 * M + j))) (hw : ∀ x, x < 4 * M → wds' x = wds x) :
    dm_RP lc k V R dI dA (dm_fu n l (dm_i X t c)) (M + 1) (upd ty M (nI t)) (upd to M p1) (upd ln M (nI l)) (upd co M p3) (upd inf M p4) (upd ak M p5) wds' := by
  obtain ⟨hM, ky, hk, hn⟩ := h
  refine ⟨?_, dm_fu ky M (l, t, c), fun i hi => ?_, fun a b e => ?_⟩
  · have e1 := dm_s8_g dm_tot (f := n) (c := l) (v := X) (by omega)
    have e2 := dm_s8_g dm_tot (f := n) (c := l) (v := dm_i X t c) (by omega)
    have e3 := dm_tot_i (n := X) ht hc
    omega
  · by_cases e : i = M
    · subst e
      rw [dm_fs, pk_us, pk_us, pk_us, pk_us, pk_us, pk_us]
      exact ⟨hl, ht, hc, rfl, rfl, hm⟩
    · rw [dm_fn e, pk_un e, pk_un e, pk_un e, pk_un e, pk_un e, pk_un e]
      obtain ⟨h1, h2, h3, h4, h5, h6⟩ := hk i (by omega)
      refine ⟨h1, h2, h3, h4, h5, ?_⟩
      have g : ∀ j, j < 4 → wds' (4 * i + j) = wds (4 * i + j) := fun j hj => hw _ (by omega)
      obtain ⟨q1, q2, q3, q4, q5, q6, q7, q8⟩ := h6
      refine ⟨q1, fun z => ⟨fun y => ⟨((q2 z).1 y).1, fun j hj => (g j hj).trans (((q2 z).1 y).2 j hj)⟩, (q2 z).2⟩, fun z j hj => (g j hj).trans (q3 z j hj), q4, q5, fun z => ⟨(q6 z).1, (q6 z).2.1, (q6 z).2.2.1, fun j hj => (g j hj).trans ((q6 z).2.2.2 j hj)⟩, q7, q8⟩
  · rw [dm_cn_post, hn]
    by_cases e1 : a = l
    · subst e1
      rw [dm_fs, dm_fs, dm_iv]
      by_cases e2 : b = t ∧ e = c
      · obtain ⟨rfl, rfl⟩ := e2; simp
      · rw [if_neg e2, if_neg (fun z => e2 (by simp only [Prod.mk.injEq] at z; exact ⟨z.2.1.symm, z.2.2.symm⟩))]
    · rw [dm_fn e1, dm_fn e1, if_neg (fun z => e1 (by simp only [Prod.mk.injEq] at z; exact z.1.symm))]; rfl
theorem dm_RP_take (h : dm_RP lc k V R dI dA n (M + 1) ty to ln co inf ak wds) (hlc : lc ≤ 8) (hs : s ≤ M) :
    ∃ l t c, l < lc ∧ t < 12 ∧ c < 4 ∧ 1 ≤ n l t c ∧ ln s = nI l ∧ ty s = nI t ∧ dm_CM k V R dI dA l t c (to s) (co s) (inf s) (ak s) (fun j => wds (4 * s + j)) ∧
      dm_RP lc k V R dI dA (dm_fu n l (dm_d (n l) t c)) M (upd ty s (ty M)) (upd to s (to M)) (upd ln s (ln M)) (upd co s (co M)) (upd inf s (inf M)) (upd ak s (ak M)) (dm_cp wds (4 * s) wds (4 * M) 4) := by
  obtain ⟨hM, ky, hk, hn⟩ := h
  obtain ⟨h1, h2, h3, h4, h5, h6⟩ := hk s (by omega)
  have hp : 1 ≤ n (ky s).1 (ky s).2.1 (ky s).2.2 := by
    rw [← hn]; exact dm_cn_pos (i := s) _ (by omega) rfl
  refine ⟨(ky s).1, (ky s).2.1, (ky s).2.2, h1, h2, h3, hp, h4, h5, h6, ?_, dm_fu ky s (ky M), fun i hi => ?_, fun a b e => ?_⟩
  · have e1 := dm_s8_g dm_tot (f := n) (c := (ky s).1) (v := dm_d (n (ky s).1) (ky s).2.1 (ky s).2.2) (by omega)
    have e3 := dm_tot_d (n := n (ky s).1) h2 h3 hp
    omega
  · by_cases e : i = s
    · subst e
      rw [dm_fs, pk_us, pk_us, pk_us, pk_us, pk_us, pk_us]
      obtain ⟨g1, g2, g3, g4, g5, g6⟩ := hk M (by omega)
      refine ⟨g1, g2, g3, g4, g5, ?_⟩
      have g : ∀ j, j < 4 → dm_cp wds (4 * i) wds (4 * M) 4 (4 * i + j) = wds (4 * M + j) := fun j hj => dm_cpi hj
      obtain ⟨q1, q2, q3, q4, q5, q6, q7, q8⟩ := g6
      refine ⟨q1, fun z => ⟨fun y => ⟨((q2 z).1 y).1, fun j hj => (g j hj).trans (((q2 z).1 y).2 j hj)⟩, (q2 z).2⟩, fun z j hj => (g j hj).trans (q3 z j hj), q4, q5, fun z => ⟨(q6 z).1, (q6 z).2.1, (q6 z).2.2.1, fun j hj => (g j hj).trans ((q6 z).2.2.2 j hj)⟩, q7, q8⟩
    · rw [dm_fn e, pk_un e, pk_un e, pk_un e, pk_un e, pk_un e, pk_un e]
      obtain ⟨g1, g2, g3, g4, g5, g6⟩ := hk i (by omega)
      refine ⟨g1, g2, g3, g4, g5, ?_⟩
      have g : ∀ j, j < 4 → dm_cp wds (4 * s) wds (4 * M) 4 (4 * i + j) = wds (4 * i + j) := fun j hj => dm_cpo (by omega)
      obtain ⟨q1, q2, q3, q4, q5, q6, q7, q8⟩ := g6
      refine ⟨q1, fun z => ⟨fun y => ⟨((q2 z).1 y).1, fun j hj => (g j hj).trans (((q2 z).1 y).2 j hj)⟩, (q2 z).2⟩, fun z j hj => (g j hj).trans (q3 z j hj), q4, q5, fun z => ⟨(q6 z).1, (q6 z).2.1, (q6 z).2.2.1, fun j hj => (g j hj).trans ((q6 z).2.2.2 j hj)⟩, q7, q8⟩
  · have q := dm_cn_take (ky := ky) (x := (a, b, e)) (s := s) (m := M) hs
    rw [hn] at q
    by_cases e1 : a = (ky s).1
    · subst e1
      rw [dm_fs, dm_dv]
      by_cases e2 : b = (ky s).2.1 ∧ e = (ky s).2.2
      · obtain ⟨rfl, rfl⟩ := e2
        rw [if_pos rfl] at q; rw [if_pos ⟨rfl, rfl⟩]; omega
      · rw [if_neg (fun z => e2 (by rw [z]; exact ⟨rfl, rfl⟩))] at q; rw [if_neg e2]; omega
    · rw [dm_fn e1]
      rw [if_neg (fun z => e1 (by rw [z]))] at q; omega
theorem dm_RP_mono {k' : Nat → Nat → Nat} {V' : Nat → Nat → Int32} {R' dI' dA' : Nat → Nat} (h : dm_RP lc k V R dI dA n M ty to ln co inf ak wds)
    (hm : ∀ l t c, l < lc → t < 12 → c < 4 → 1 ≤ n l t c → ∀ (to co inf ak : Int32) (w : Nat → Int32), dm_CM k V R dI dA l t c to co inf ak w → dm_CM k' V' R' dI' dA' l t c to co inf ak w) :
    dm_RP lc k' V' R' dI' dA' n M ty to ln co inf ak wds := by
  obtain ⟨hM, ky, hk, hn⟩ := h
  refine ⟨hM, ky, fun i hi => ?_, hn⟩
  obtain ⟨h1, h2, h3, h4, h5, h6⟩ := hk i hi
  exact ⟨h1, h2, h3, h4, h5, hm _ _ _ h1 h2 h3 (by rw [← hn]; exact dm_cn_pos (i := i) _ hi rfl) _ _ _ _ _ h6⟩
theorem dm_RP_self : dm_fu n l (n l) = n := dm_fself
end
end
section
/-! the frames against the holds -/
def dm_iI (z : Int) : Int32 := Int32.ofInt z
theorem dm_iI_toInt {z : Int} (h : -2147483648 ≤ z) (h2 : z < 2147483648) : (dm_iI z).toInt = z := by
  rw [dm_iI, Int32.toInt_ofInt, show Int32.size = 4294967296 from rfl]; exact Int.bmod_eq_of_le (by omega) (by omega)
theorem dm_iI_0 {z : Int} (h : -2147483648 ≤ z) (h2 : z < 2147483648) : dm_iI z = 0 ↔ z = 0 := by
  rw [← Int32.toInt_inj, dm_iI_toInt h h2, show (0 : Int32).toInt = 0 from by decide]
theorem dm_iI_z : dm_iI 0 = 0 := by decide
theorem dm_iI_addN (z : Int) (m : Nat) : dm_iI z + nI m = dm_iI (z + m) := by
  rw [dm_iI, dm_iI, nI, Int32.ofInt_add]; rfl
theorem dm_iI_sub1 (z : Int) : dm_iI z - 1 = dm_iI (z - 1) := by
  rw [dm_iI, dm_iI, Int32.ofInt_sub]; rfl
def dm_FF (q l k gr : Nat) (ac : Int) (V : Nat → Int32) (FL FS FT FA FG FW : Nat → Int32) : Prop :=
  FL q = nI l ∧ FS q = nI (dm_st k) ∧ FA q = dm_iI ac ∧ FG q = nI gr ∧ (gr = 1 → FT q = 2) ∧ (dm_ro k ≠ 0 ∨ gr = 1 → ∀ i, i < 4 → FW (4 * q + i) = V i)
def dm_RF (cc lc fc : Nat) (k gr : Nat → Nat → Nat) (ac : Nat → Nat → Int) (fr : Nat → Nat → Nat) (V : Nat → Nat → Int32) (FL FS FT FA FG FW : Nat → Int32) : Prop :=
  (∀ l c, ¬ (l < lc ∧ c < cc) → k l c = 0) ∧
  (∀ l c, l < lc → c < cc → k l c ≠ 0 → fr l c < fc ∧ dm_FF (4 * c + fr l c) l (k l c) (gr l c) (ac l c) (V l) FL FS FT FA FG FW) ∧
  (∀ c f, c < cc → f < fc → FL (4 * c + f) = -1 ∨ ∃ l, l < lc ∧ k l c ≠ 0 ∧ fr l c = f)
section
variable {cc lc fc l c f v g : Nat} {a : Int} {k gr fr : Nat → Nat → Nat} {ac : Nat → Nat → Int} {V V' : Nat → Nat → Int32} {FL FS FT FA FG FW FS' FT' FA' FG' FW' : Nat → Int32}
theorem dm_nIm {m : Nat} (h : m < 2 ^ 31) : ¬ nI m = -1 := fun e => by
  have := nI_toInt h
  rw [e, show (-1 : Int32).toInt = -1 from by decide] at this
  omega
theorem dm_RF_lt (h : dm_RF cc lc fc k gr ac fr V FL FS FT FA FG FW) (hk : k l c ≠ 0) : l < lc ∧ c < cc :=
  Classical.byContradiction fun z => hk (h.1 l c z)
theorem dm_RF_at (h : dm_RF cc lc fc k gr ac fr V FL FS FT FA FG FW) (hk : k l c ≠ 0) : fr l c < fc ∧ dm_FF (4 * c + fr l c) l (k l c) (gr l c) (ac l c) (V l) FL FS FT FA FG FW :=
  h.2.1 l c (dm_RF_lt h hk).1 (dm_RF_lt h hk).2 hk
theorem dm_RF_found (h : dm_RF cc lc fc k gr ac fr V FL FS FT FA FG FW) (hlc : lc ≤ 8) (hl : l < lc) (hc : c < cc) (hf : f < fc) (e : FL (4 * c + f) = nI l) : k l c ≠ 0 ∧ fr l c = f := by
  rcases h.2.2 c f hc hf with g | ⟨l', hl', hk', hf'⟩
  · rw [g] at e; exact absurd e.symm (dm_nIm (by omega))
  · have := (dm_RF_at h hk').2.1
    rw [hf', e, nI_eq (by omega) (by omega)] at this
    subst this
    exact ⟨hk', hf'⟩
theorem dm_RF_none (h : dm_RF cc lc fc k gr ac fr V FL FS FT FA FG FW) (hz : ∀ f, f < fc → FL (4 * c + f) ≠ nI l) : k l c = 0 :=
  Classical.byContradiction fun hk => hz _ (dm_RF_at h hk).1 (dm_RF_at h hk).2.1
theorem dm_RF_inj {l' c' : Nat} (h : dm_RF cc lc fc k gr ac fr V FL FS FT FA FG FW) (hlc : lc ≤ 8) (hfc : fc ≤ 4) (h1 : k l c ≠ 0) (h2 : k l' c' ≠ 0) (hn : ¬ (l' = l ∧ c' = c)) : 4 * c' + fr l' c' ≠ 4 * c + fr l c := by
  intro e
  have a1 := dm_RF_at h h1
  have a2 := dm_RF_at h h2
  have hc : c' = c := by omega
  have b1 := a1.2.1
  have b2 := a2.2.1
  rw [e, b1, nI_eq (by have := (dm_RF_lt h h1).1; omega) (by have := (dm_RF_lt h h2).1; omega)] at b2
  exact hn ⟨b2.symm, hc⟩
/-- the frame of (l, c) stays and changes its contents -/
theorem dm_RF_set (h : dm_RF cc lc fc k gr ac fr V FL FS FT FA FG FW) (hlc : lc ≤ 8) (hfc : fc ≤ 4) (hk : k l c ≠ 0) (hv : v ≠ 0)
    (hq : dm_FF (4 * c + fr l c) l v g a (V l) FL FS' FT' FA' FG' FW')
    (o : ∀ j, j ≠ 4 * c + fr l c → FS' j = FS j ∧ FT' j = FT j ∧ FA' j = FA j ∧ FG' j = FG j ∧ ∀ i, i < 4 → FW' (4 * j + i) = FW (4 * j + i)) :
    dm_RF cc lc fc (dm_f2 k l c v) (dm_f2 gr l c g) (dm_f2 ac l c a) fr V FL FS' FT' FA' FG' FW' := by
  have hlt := dm_RF_lt h hk
  refine ⟨fun x y z => ?_, fun x y hx hy z => ?_, fun y j hy hj => ?_⟩
  · rw [dm_f2v, if_neg (fun e => z (by rw [e.1, e.2]; exact hlt))]; exact h.1 x y z
  · by_cases e : x = l ∧ y = c
    · obtain ⟨rfl, rfl⟩ := e
      refine ⟨(dm_RF_at h hk).1, ?_⟩
      simp only [dm_f2v, and_self, if_true]
      exact hq
    · simp only [dm_f2v, if_neg e] at z ⊢
      obtain ⟨h1, h2, h3, h4, h5, h6, h7⟩ := dm_RF_at h z
      obtain ⟨o1, o2, o3, o4, o5⟩ := o _ (dm_RF_inj h hlc hfc hk z e)
      refine ⟨h1, h2, ?_, ?_, ?_, ?_, ?_⟩
      · rw [o1]; exact h3
      · rw [o3]; exact h4
      · rw [o4]; exact h5
      · rw [o2]; exact h6
      · intro w i hi; rw [o5 i hi]; exact h7 w i hi
  · rcases h.2.2 y j hy hj with e | ⟨x, hx, e1, e2⟩
    · exact Or.inl e
    · refine Or.inr ⟨x, hx, ?_, e2⟩
      rw [dm_f2v]; split
      · exact hv
      · exact e1
/-- the frame of (l, c) becomes free -/
theorem dm_RF_rel (h : dm_RF cc lc fc k gr ac fr V FL FS FT FA FG FW) (hlc : lc ≤ 8) (hfc : fc ≤ 4) (hk : k l c ≠ 0)
    (o : ∀ j, j ≠ 4 * c + fr l c → FS' j = FS j ∧ FT' j = FT j ∧ FA' j = FA j ∧ FG' j = FG j ∧ ∀ i, i < 4 → FW' (4 * j + i) = FW (4 * j + i)) :
    dm_RF cc lc fc (dm_f2 k l c 0) (dm_f2 gr l c g) (dm_f2 ac l c a) fr V (upd FL (4 * c + fr l c) (-1)) FS' FT' FA' FG' FW' := by
  have hlt := dm_RF_lt h hk
  refine ⟨fun x y z => ?_, fun x y hx hy z => ?_, fun y j hy hj => ?_⟩
  · rw [dm_f2v]; split
    · rfl
    · exact h.1 x y z
  · have e : ¬ (x = l ∧ y = c) := fun e => z (by rw [dm_f2v, if_pos e])
    simp only [dm_f2v, if_neg e] at z ⊢
    obtain ⟨h1, h2, h3, h4, h5, h6, h7⟩ := dm_RF_at h z
    have hne := dm_RF_inj h hlc hfc hk z e
    obtain ⟨o1, o2, o3, o4, o5⟩ := o _ hne
    refine ⟨h1, ?_, ?_, ?_, ?_, ?_, ?_⟩
    · rw [pk_un hne]; exact h2
    · rw [o1]; exact h3
    · rw [o3]; exact h4
    · rw [o4]; exact h5
    · rw [o2]; exact h6
    · intro w i hi; rw [o5 i hi]; exact h7 w i hi
  · by_cases e : 4 * y + j = 4 * c + fr l c
    · left; rw [e, pk_us]
    · rw [pk_un e]
      rcases h.2.2 y j hy hj with e' | ⟨x, hx, e1, e2⟩
      · exact Or.inl e'
      · refine Or.inr ⟨x, hx, ?_, e2⟩
        rw [dm_f2v, if_neg (fun w => e (by rw [← e2, w.1, w.2]))]; exact e1
/-- a free frame is taken for (l, c) -/
theorem dm_RF_new (h : dm_RF cc lc fc k gr ac fr V FL FS FT FA FG FW) (hlc : lc ≤ 8) (hfc : fc ≤ 4) (hl : l < lc) (hc : c < cc) (hf : f < fc) (hk : k l c = 0) (hv : v ≠ 0) (e0 : FL (4 * c + f) = -1)
    (hq : dm_FF (4 * c + f) l v g a (V l) (upd FL (4 * c + f) (nI l)) FS' FT' FA' FG' FW')
    (o : ∀ j, j ≠ 4 * c + f → FS' j = FS j ∧ FT' j = FT j ∧ FA' j = FA j ∧ FG' j = FG j ∧ ∀ i, i < 4 → FW' (4 * j + i) = FW (4 * j + i)) :
    dm_RF cc lc fc (dm_f2 k l c v) (dm_f2 gr l c g) (dm_f2 ac l c a) (dm_f2 fr l c f) V (upd FL (4 * c + f) (nI l)) FS' FT' FA' FG' FW' := by
  refine ⟨fun x y z => ?_, fun x y hx hy z => ?_, fun y j hy hj => ?_⟩
  · rw [dm_f2v, if_neg (fun e => z (by rw [e.1, e.2]; exact ⟨hl, hc⟩))]; exact h.1 x y z
  · by_cases e : x = l ∧ y = c
    · obtain ⟨rfl, rfl⟩ := e
      simp only [dm_f2v, and_self, if_true]
      exact ⟨hf, hq⟩
    · simp only [dm_f2v, if_neg e] at z ⊢
      obtain ⟨h1, h2, h3, h4, h5, h6, h7⟩ := dm_RF_at h z
      have hne : 4 * y + fr x y ≠ 4 * c + f := fun w => by
        rw [w, e0] at h2; exact dm_nIm (by omega) h2.symm
      obtain ⟨o1, o2, o3, o4, o5⟩ := o _ hne
      refine ⟨h1, ?_, ?_, ?_, ?_, ?_, ?_⟩
      · rw [pk_un hne]; exact h2
      · rw [o1]; exact h3
      · rw [o3]; exact h4
      · rw [o4]; exact h5
      · rw [o2]; exact h6
      · intro w i hi; rw [o5 i hi]; exact h7 w i hi
  · by_cases e : 4 * y + j = 4 * c + f
    · have e1 : y = c := by omega
      have e2 : j = f := by omega
      subst e1 e2
      exact Or.inr ⟨l, hl, by rw [dm_f2v, if_pos ⟨rfl, rfl⟩]; exact hv, by rw [dm_f2v, if_pos ⟨rfl, rfl⟩]⟩
    · rw [pk_un e]
      rcases h.2.2 y j hy hj with e' | ⟨x, hx, e1, e2⟩
      · exact Or.inl e'
      · have ne : ¬ (x = l ∧ y = c) := fun w => e1 (by rw [w.1, w.2]; exact hk)
        exact Or.inr ⟨x, hx, by rw [dm_f2v, if_neg ne]; exact e1, by rw [dm_f2v, if_neg ne]; exact e2⟩
end
end
section
/-! the waiting requests, the home -/
theorem dm_cn_shift {ky : Nat → Nat × Nat × Nat} {x : Nat × Nat × Nat} : ∀ m, dm_cn (fun j => ky (j + 1)) x m + (if ky 0 = x then 1 else 0) = dm_cn ky x (m + 1) := by
  intro m
  induction m with
  | zero => simp only [dm_cn]
  | succ m ih => rw [dm_cn, dm_cn]; omega
def dm_CQ (k : Nat → Nat → Nat) (V : Nat → Nat → Int32) (l t c : Nat) (inf : Int32) (w : Nat → Int32) : Prop :=
  t = 2 → (k l c = 9 → inf = 1 ∧ ∀ i, i < 4 → w i = V l i) ∧ (k l c = 8 → inf ≠ 1)
def dm_RQ (lc : Nat) (k : Nat → Nat → Nat) (V : Nat → Nat → Int32) (nq : Nat → Nat → Nat → Nat) (hd len ty co inf wds : Nat → Int32) : Prop :=
  ∀ l, l < lc → ∃ h : Nat, h < 4 ∧ hd l = nI h ∧ len l = nI (dm_NQ (nq l)) ∧ ∃ ky : Nat → Nat × Nat × Nat,
    (∀ j, j < dm_NQ (nq l) → (ky j).1 = l ∧ (ky j).2.1 < 3 ∧ (ky j).2.2 < 4 ∧ ty (4 * l + (h + j) % 4) = nI (ky j).2.1 ∧ co (4 * l + (h + j) % 4) = nI (ky j).2.2 ∧ dm_CQ k V l (ky j).2.1 (ky j).2.2 (inf (4 * l + (h + j) % 4)) (fun i => wds (4 * (4 * l + (h + j) % 4) + i))) ∧
    (∀ t c, dm_cn ky (l, t, c) (dm_NQ (nq l)) = nq l t c)
theorem dm_NQ_i {nq : Nat → Nat → Nat} {t c : Nat} (ht : t < 3) (hc : c < 4) : dm_NQ (dm_i nq t c) = dm_NQ nq + 1 := by
  have e := dm_is (n := nq) (t := t) hc
  have g : ∀ a, a ≠ t → dm_s4 (dm_i nq t c a) = dm_s4 (nq a) := fun a h => by rw [dm_in h]
  have h3 : t = 0 ∨ t = 1 ∨ t = 2 := by omega
  rcases h3 with rfl | rfl | rfl <;> simp only [dm_NQ] <;> simp (disch := decide) only [g] <;> rw [e] <;> omega
theorem dm_NQ_d {nq : Nat → Nat → Nat} {t c : Nat} (ht : t < 3) (hc : c < 4) (h : 1 ≤ nq t c) : dm_NQ (dm_d nq t c) + 1 = dm_NQ nq := by
  have e := dm_ds (n := nq) (t := t) hc h
  have g : ∀ a, a ≠ t → dm_s4 (dm_d nq t c a) = dm_s4 (nq a) := fun a h => by rw [dm_dn h]
  have h3 : t = 0 ∨ t = 1 ∨ t = 2 := by omega
  rcases h3 with rfl | rfl | rfl <;> simp only [dm_NQ] <;> simp (disch := decide) only [g] <;> omega
section
variable {lc l t c m : Nat} {k : Nat → Nat → Nat} {V : Nat → Nat → Int32} {nq : Nat → Nat → Nat → Nat} {hd len ty co inf wds inw : Nat → Int32} {p : Int32}
theorem dm_RQ_mono {k' : Nat → Nat → Nat} {V' : Nat → Nat → Int32} (h : dm_RQ lc k V nq hd len ty co inf wds)
    (hm : ∀ l t c, l < lc → t < 3 → c < 4 → 1 ≤ nq l t c → ∀ (inf : Int32) (w : Nat → Int32), dm_CQ k V l t c inf w → dm_CQ k' V' l t c inf w) :
    dm_RQ lc k' V' nq hd len ty co inf wds := by
  intro l hl
  obtain ⟨h0, h1, h2, h3, ky, h4, h5⟩ := h l hl
  refine ⟨h0, h1, h2, h3, ky, fun j hj => ?_, h5⟩
  obtain ⟨q0, q1, q2, q3, q4, q5⟩ := h4 j hj
  refine ⟨q0, q1, q2, q3, q4, hm l _ _ hl q1 q2 ?_ _ _ q5⟩
  rw [← h5]
  exact dm_cn_pos (i := j) _ hj (by rw [← q0])
theorem dm_RQ_enq (h : dm_RQ lc k V nq hd len ty co inf wds) (hl : l < lc) (hm : dm_NQ (nq l) < 4) (ht : t < 3) (hc : c < 4) (hw : dm_CQ k V l t c p (fun i => inw i)) :
    ∃ h : Nat, h < 4 ∧ hd l = nI h ∧ len l = nI (dm_NQ (nq l)) ∧
      dm_RQ lc k V (dm_fu nq l (dm_i (nq l) t c)) hd (upd len l (nI (dm_NQ (nq l) + 1))) (upd ty (4 * l + (h + dm_NQ (nq l)) % 4) (nI t)) (upd co (4 * l + (h + dm_NQ (nq l)) % 4) (nI c)) (upd inf (4 * l + (h + dm_NQ (nq l)) % 4) p) (dm_cp wds (4 * (4 * l + (h + dm_NQ (nq l)) % 4)) inw 0 4) := by
  obtain ⟨h0, h1, h2, h3, ky, h4, h5⟩ := h l hl
  refine ⟨h0, h1, h2, h3, fun x hx => ?_⟩
  by_cases e : x = l
  · subst e
    rw [dm_fs, dm_NQ_i ht hc]
    refine ⟨h0, h1, h2, pk_us, dm_fu ky (dm_NQ (nq x)) (x, t, c), fun j hj => ?_, fun a b => ?_⟩
    · by_cases e : j = dm_NQ (nq x)
      · subst e
        rw [dm_fs, pk_us, pk_us, pk_us]
        refine ⟨rfl, ht, hc, rfl, rfl, fun z => ⟨fun y => ⟨((hw z).1 y).1, fun i hi => ?_⟩, (hw z).2⟩⟩
        have := ((hw z).1 y).2 i hi
        exact (dm_cpi hi).trans (by rw [Nat.zero_add]; exact this)
      · have hne : 4 * x + (h0 + j) % 4 ≠ 4 * x + (h0 + dm_NQ (nq x)) % 4 := by omega
        rw [dm_fn e, pk_un hne, pk_un hne, pk_un hne]
        obtain ⟨q0, q1, q2, q3, q4, q5⟩ := h4 j (by omega)
        refine ⟨q0, q1, q2, q3, q4, fun z => ⟨fun y => ⟨((q5 z).1 y).1, fun i hi => ?_⟩, (q5 z).2⟩⟩
        have := ((q5 z).1 y).2 i hi
        exact (dm_cpo (by omega)).trans this
    · rw [dm_cn_post, h5, dm_iv]
      by_cases e2 : a = t ∧ b = c
      · obtain ⟨rfl, rfl⟩ := e2; simp
      · rw [if_neg e2, if_neg (fun z => e2 (by simp only [Prod.mk.injEq] at z; exact ⟨z.2.1.symm, z.2.2.symm⟩))]
  · obtain ⟨g0, g1, g2, g3, kz, g4, g5⟩ := h x hx
    rw [dm_fn e]
    refine ⟨g0, g1, g2, by rw [pk_un e]; exact g3, kz, fun j hj => ?_, g5⟩
    have hne : 4 * x + (g0 + j) % 4 ≠ 4 * l + (h0 + dm_NQ (nq l)) % 4 := by omega
    rw [pk_un hne, pk_un hne, pk_un hne]
    obtain ⟨q0, q1, q2, q3, q4, q5⟩ := g4 j hj
    refine ⟨q0, q1, q2, q3, q4, fun z => ⟨fun y => ⟨((q5 z).1 y).1, fun i hi => ?_⟩, (q5 z).2⟩⟩
    have := ((q5 z).1 y).2 i hi
    exact (dm_cpo (by omega)).trans this
theorem dm_RQ_deq (h : dm_RQ lc k V nq hd len ty co inf wds) (hl : l < lc) (hm : dm_NQ (nq l) = m + 1) :
    ∃ h t c : Nat, h < 4 ∧ hd l = nI h ∧ len l = nI (m + 1) ∧ t < 3 ∧ c < 4 ∧ 1 ≤ nq l t c ∧ ty (4 * l + h) = nI t ∧ co (4 * l + h) = nI c ∧ dm_CQ k V l t c (inf (4 * l + h)) (fun i => wds (4 * (4 * l + h) + i)) ∧
      dm_RQ lc k V (dm_fu nq l (dm_d (nq l) t c)) (upd hd l (nI ((h + 1) % 4))) (upd len l (nI m)) ty co inf wds := by
  obtain ⟨h0, h1, h2, h3, ky, h4, h5⟩ := h l hl
  obtain ⟨q0, q1, q2, q3, q4, q5⟩ := h4 0 (by omega)
  have e0 : (h0 + 0) % 4 = h0 := by omega
  rw [e0] at q3 q4 q5
  have hp : 1 ≤ nq l (ky 0).2.1 (ky 0).2.2 := by
    rw [← h5]; exact dm_cn_pos (i := 0) _ (by omega) (by rw [← q0])
  refine ⟨h0, (ky 0).2.1, (ky 0).2.2, h1, h2, by rw [h3, hm], q1, q2, hp, q3, q4, q5, fun x hx => ?_⟩
  have hd1 := dm_NQ_d (nq := nq l) q1 q2 hp
  by_cases e : x = l
  · subst e
    rw [dm_fs]
    have hm' : dm_NQ (dm_d (nq x) (ky 0).2.1 (ky 0).2.2) = m := by omega
    rw [hm']
    refine ⟨(h0 + 1) % 4, by omega, pk_us, pk_us, fun j => ky (j + 1), fun j hj => ?_, fun a b => ?_⟩
    · have ee : ((h0 + 1) % 4 + j) % 4 = (h0 + (j + 1)) % 4 := by omega
      rw [ee]
      exact h4 (j + 1) (by omega)
    · have q := dm_cn_shift (ky := ky) (x := (x, a, b)) m
      rw [← hm, h5] at q
      rw [dm_dv]
      by_cases e2 : a = (ky 0).2.1 ∧ b = (ky 0).2.2
      · obtain ⟨rfl, rfl⟩ := e2
        rw [if_pos (by rw [← q0])] at q; rw [if_pos ⟨rfl, rfl⟩]; omega
      · rw [if_neg (fun z => e2 (by rw [z]; exact ⟨rfl, rfl⟩))] at q; rw [if_neg e2]; omega
  · obtain ⟨g0, g1, g2, g3, kz, g4, g5⟩ := h x hx
    rw [dm_fn e]
    exact ⟨g0, g1, by rw [pk_un e]; exact g2, by rw [pk_un e]; exact g3, kz, g4, g5⟩
end
/-! the directory -/
def dm_DS (r : Nat → Nat) (s : Int32) : Prop := ∃ b : Nat, b < 16 ∧ s = nI b ∧ ∀ c, c < 4 → (b.testBit c = true ↔ r c = 1)
def dm_DO (r : Nat → Nat) (o : Int32) : Prop := (o = -1 ∧ ∀ c, c < 4 → r c ≠ 2) ∨ ∃ c, c < 4 ∧ o = nI c ∧ r c = 2 ∧ ∀ e, e < 4 → e ≠ c → r e ≠ 2
def dm_bit (c : Nat) : Int32 := (1 : Int32) <<< (nI c &&& 31)
theorem dm_b1 : ∀ b : Fin 16, ∀ c : Fin 4, (nI b.val &&& dm_bit c.val = 0) ↔ b.val.testBit c.val = false := by decide +kernel
theorem dm_b2 : ∀ b : Fin 16, ∀ c : Fin 4, nI b.val ||| dm_bit c.val = nI (b.val ||| 2 ^ c.val) := by decide +kernel
theorem dm_b3 : ∀ b : Fin 16, ∀ c : Fin 4, nI b.val &&& (dm_bit c.val ^^^ (-1)) = nI (b.val &&& (15 - 2 ^ c.val)) := by decide +kernel
theorem dm_b4 : ∀ b : Fin 16, ∀ c e : Fin 4, (b.val ||| 2 ^ c.val) < 16 ∧ (b.val ||| 2 ^ c.val).testBit e.val = (b.val.testBit e.val || decide (e = c)) := by decide +kernel
theorem dm_b5 : ∀ b : Fin 16, ∀ c e : Fin 4, (b.val &&& (15 - 2 ^ c.val)) < 16 ∧ (b.val &&& (15 - 2 ^ c.val)).testBit e.val = (b.val.testBit e.val && !decide (e = c)) := by decide +kernel
theorem dm_b6 : ∀ c : Fin 4, dm_bit c.val = nI (2 ^ c.val) ∧ 2 ^ c.val < 16 := by decide +kernel
theorem dm_b7 : ∀ c e : Fin 4, (2 ^ c.val).testBit e.val = decide (e = c) := by decide +kernel
theorem dm_b8 : ∀ b : Fin 16, nI b.val = 0 ↔ ∀ e : Fin 4, b.val.testBit e.val = false := by decide +kernel
section
variable {r r' : Nat → Nat} {s o : Int32} {c e : Nat}
theorem dm_DS_bit (h : dm_DS r s) (hc : c < 4) : s &&& ((1 : Int32) <<< (nI c &&& 31)) = 0 ↔ r c ≠ 1 := by
  obtain ⟨b, hb, rfl, h1⟩ := h
  have := dm_b1 ⟨b, hb⟩ ⟨c, hc⟩
  have h2 := h1 c hc
  simp only [dm_bit] at this
  rw [this]
  rw [ne_eq, ← h2]
  simp
theorem dm_DS_zero (h : dm_DS r s) : s = 0 ↔ ∀ c, c < 4 → r c ≠ 1 := by
  obtain ⟨b, hb, rfl, h1⟩ := h
  have := dm_b8 ⟨b, hb⟩
  simp only at this
  rw [this]
  constructor
  · intro z c hc e
    have := z ⟨c, hc⟩
    rw [(h1 c hc).mpr e] at this
    exact Bool.noConfusion this
  · intro z c
    have := z c.val c.isLt
    rw [ne_eq, ← h1 c.val c.isLt] at this
    simpa using this
theorem dm_DS_or (h : dm_DS r s) (hc : c < 4) (h1 : ∀ e, e < 4 → (r' e = 1 ↔ r e = 1 ∨ e = c)) : dm_DS r' (s ||| ((1 : Int32) <<< (nI c &&& 31))) := by
  obtain ⟨b, hb, rfl, h2⟩ := h
  refine ⟨b ||| 2 ^ c, (dm_b4 ⟨b, hb⟩ ⟨c, hc⟩ ⟨c, hc⟩).1, dm_b2 ⟨b, hb⟩ ⟨c, hc⟩, fun e he => ?_⟩
  have := (dm_b4 ⟨b, hb⟩ ⟨c, hc⟩ ⟨e, he⟩).2
  simp only at this
  rw [this, h1 e he, ← h2 e he]
  simp
theorem dm_DS_clr (h : dm_DS r s) (hc : c < 4) (h1 : ∀ e, e < 4 → (r' e = 1 ↔ r e = 1 ∧ e ≠ c)) : dm_DS r' (s &&& (((1 : Int32) <<< (nI c &&& 31)) ^^^ (-1))) := by
  obtain ⟨b, hb, rfl, h2⟩ := h
  refine ⟨b &&& (15 - 2 ^ c), (dm_b5 ⟨b, hb⟩ ⟨c, hc⟩ ⟨c, hc⟩).1, dm_b3 ⟨b, hb⟩ ⟨c, hc⟩, fun e he => ?_⟩
  have := (dm_b5 ⟨b, hb⟩ ⟨c, hc⟩ ⟨e, he⟩).2
  simp only at this
  rw [this, h1 e he, ← h2 e he]
  simp
theorem dm_DS_one (hc : c < 4) : dm_DS (fun e => if e = c then 1 else 0) ((1 : Int32) <<< (nI c &&& 31)) := by
  refine ⟨2 ^ c, (dm_b6 ⟨c, hc⟩).2, (dm_b6 ⟨c, hc⟩).1, fun e he => ?_⟩
  have := dm_b7 ⟨c, hc⟩ ⟨e, he⟩
  simp only at this
  rw [this]
  by_cases g : e = c <;> simp [g]
theorem dm_DS_0 (h : ∀ e, e < 4 → r e ≠ 1) : dm_DS r 0 :=
  ⟨0, by omega, rfl, fun c hc => ⟨fun z => absurd z (by simp), fun z => absurd z (h c hc)⟩⟩
theorem dm_DO_own (h : dm_DO r o) (hn : ¬ o < 0) : ∃ c, c < 4 ∧ o = nI c ∧ r c = 2 ∧ ∀ e, e < 4 → e ≠ c → r e ≠ 2 := by
  rcases h with h | h
  · rw [h.1] at hn; exact absurd (by decide) hn
  · exact h
theorem dm_DO_no (h : dm_DO r o) (hn : o < 0) : ∀ c, c < 4 → r c ≠ 2 := by
  rcases h with h | ⟨c, hc, rfl, _⟩
  · exact h.2
  · exact absurd hn (nI_pos (by omega))
theorem dm_DO_eq (h : dm_DO r o) (hc : c < 4) : o = nI c ↔ r c = 2 := by
  rcases h with ⟨rfl, h⟩ | ⟨e, he, rfl, h1, h2⟩
  · exact ⟨fun z => absurd z.symm (dm_nIm (by omega)), fun z => absurd z (h c hc)⟩
  · rw [nI_eq (by omega) (by omega)]
    constructor
    · rintro rfl; exact h1
    · intro z; exact Classical.byContradiction fun g => h2 c hc (fun w => g w.symm) z
end
end
section
/-! the whole relation of the component's state with the abstract one -/
def dm_b (a : Nat) : Nat := if a = 0 then 0 else 1
def dm_RH (lc : Nat) (d nd : Nat → Nat → Nat) (aw : Nat → Nat) (own sh nown nsh bu aws : Nat → Int32) : Prop :=
  ∀ l, l < lc → dm_DO (d l) (own l) ∧ dm_DS (d l) (sh l) ∧ dm_DO (nd l) (nown l) ∧ dm_DS (nd l) (nsh l) ∧ bu l = nI (dm_b (aw l)) ∧ aws l = nI (aw l)
theorem dm_RH_set {lc l a : Nat} {d nd : Nat → Nat → Nat} {aw : Nat → Nat} {D ND : Nat → Nat} {own sh nown nsh bu aws own' sh' nown' nsh' bu' aws' : Nat → Int32} (h : dm_RH lc d nd aw own sh nown nsh bu aws)
    (h1 : dm_DO D (own' l)) (h2 : dm_DS D (sh' l)) (h3 : dm_DO ND (nown' l)) (h4 : dm_DS ND (nsh' l)) (h5 : bu' l = nI (dm_b a)) (h6 : aws' l = nI a)
    (o : ∀ j, j ≠ l → own' j = own j ∧ sh' j = sh j ∧ nown' j = nown j ∧ nsh' j = nsh j ∧ bu' j = bu j ∧ aws' j = aws j) :
    dm_RH lc (dm_fu d l D) (dm_fu nd l ND) (dm_fu aw l a) own' sh' nown' nsh' bu' aws' := by
  intro x hx
  by_cases e : x = l
  · subst e; rw [dm_fs, dm_fs, dm_fs]; exact ⟨h1, h2, h3, h4, h5, h6⟩
  · rw [dm_fn e, dm_fn e, dm_fn e]
    obtain ⟨o1, o2, o3, o4, o5, o6⟩ := o x e
    rw [o1, o2, o3, o4, o5, o6]; exact h x hx
def dm_RM (lc : Nat) (k : Nat → Nat → Nat) (n : Nat → Nat → Nat → Nat) (dI cu : Nat → Nat) (V : Nat → Nat → Int32) (mem : Nat → Int32) : Prop :=
  ∀ l, l < lc → dm_mc (k l) (n l) (dI l) (cu l) → ∀ i, i < 4 → mem (4 * l + i) = V l i
theorem dm_RM_set {lc l : Nat} {k : Nat → Nat → Nat} {n : Nat → Nat → Nat → Nat} {dI cu : Nat → Nat} {K : Nat → Nat} {N : Nat → Nat → Nat} {I : Nat} {V : Nat → Nat → Int32} {mem mem' : Nat → Int32} (h : dm_RM lc k n dI cu V mem)
    (h1 : dm_mc K N I (cu l) → ∀ i, i < 4 → mem' (4 * l + i) = V l i) (o : ∀ j, ¬ (4 * l ≤ j ∧ j < 4 * l + 4) → mem' j = mem j) :
    dm_RM lc (dm_fu k l K) (dm_fu n l N) (dm_fu dI l I) cu V mem' := by
  intro x hx
  by_cases e : x = l
  · subst e; rw [dm_fs, dm_fs, dm_fs]; exact h1
  · rw [dm_fn e, dm_fn e, dm_fn e]
    intro g i hi; rw [o _ (by omega)]; exact h x hx g i hi
def dm_RO (cc lc : Nat) (oc ok oa pf : Nat → Nat) (kd ad pe : Nat → Int32) : Prop :=
  ∀ c, c < 4 → oc c ≤ 1 ∧ pf c ≤ 1 ∧ (oc c = 0 → kd c = -1 ∧ pf c = 0) ∧ (oc c = 1 → c < cc ∧ ok c ≤ 5 ∧ oa c < 4 * lc ∧ kd c = nI (ok c) ∧ ad c = nI (oa c)) ∧ pe c = nI (pf c)
def dm_RC (lc : Nat) (cu oc ok oa : Nat → Nat) (cur : Nat → Int32) : Prop :=
  ∀ l, l < lc → cu l ≤ 1 ∧ cur l = nI (cu l) ∧ (cu l = 1 → ∀ c, c < 4 → oc c = 1 → oa c / 4 = l → ok c = 0)
def dm_RN (cc fc : Nat) (nv : Nat → Int32) : Prop := ∀ c, c < cc → ∃ v, v < fc ∧ nv c = nI v
/-- the new word of an operation, its answer -/
def dm_app (kd : Nat) (x a v : Int32) : Int32 := if kd = 1 then x else if kd = 2 then v + x else if kd = 3 then (if v < x then x else v) else if kd = 4 then x else if kd = 5 then (if v = a then x else v) else v
def dm_res (kd : Nat) (x v : Int32) : Int32 := if kd = 1 ∨ kd = 2 ∨ kd = 3 then x else v
/-- what an open operation has done to a word -/
def dm_a1 (oc ok oa pf : Nat → Nat) (opn acc : Nat → Int32) (A c : Nat) (v : Int32) : Int32 := if oc c = 1 ∧ pf c = 1 ∧ oa c = A then dm_app (ok c) (opn c) (acc c) v else v
def dm_fd (oc ok oa pf : Nat → Nat) (opn acc : Nat → Int32) (A : Nat) (v : Int32) : Int32 :=
  dm_a1 oc ok oa pf opn acc A 3 (dm_a1 oc ok oa pf opn acc A 2 (dm_a1 oc ok oa pf opn acc A 1 (dm_a1 oc ok oa pf opn acc A 0 v)))
def dm_RV (lc : Nat) (oc ok oa pf : Nat → Nat) (V : Nat → Nat → Int32) (val opn res acc : Nat → Int32) : Prop :=
  (∀ l i, l < lc → i < 4 → V l i = dm_fd oc ok oa pf opn acc (4 * l + i) (val (4 * l + i))) ∧
  (∀ c, c < 4 → oc c = 1 → pf c = 1 → res c = dm_res (ok c) (opn c) (val (oa c))) ∧
  (∀ c e, c < 4 → e < 4 → c ≠ e → oc c = 1 → oc e = 1 → oa c = oa e → ok c = ok e ∧ (ok c = 0 ∨ ok c = 2 ∨ ok c = 3))
def dm_psi (oc pf ok s lv : Nat) : Nat := if oc = 1 ∧ pf = 0 then (if s = 5 ∨ s = 6 ∨ s = 12 ∨ s = 13 ∨ (ok = 0 ∧ (s = 4 ∨ s = 11)) then 0 else if s = 0 ∧ lv = 0 then 11 else 9) else 0
def dm_Psi (oc ok oa pf : Nat → Nat) (k : Nat → Nat → Nat) (c : Nat) : Nat := dm_psi (oc c) (pf c) (ok c) (k (oa c / 4) c) (dm_s8 (fun l => dm_lv (k l c)))
def dm_Phi (n nq : Nat → Nat → Nat → Nat) (gr : Nat → Nat → Nat) : Nat := dm_s8 (fun l => dm_phi (n l) (nq l) (gr l))
/-- an open operation has been pursued -/
def dm_PU (fc : Nat) (oc ok oa pf : Nat → Nat) (k : Nat → Nat → Nat) (FL : Nat → Int32) (c : Nat) : Prop :=
  oc c = 1 → pf c = 0 → (k (oa c / 4) c = 4 ∨ k (oa c / 4) c = 5 ∨ 7 ≤ k (oa c / 4) c) ∨ (k (oa c / 4) c = 6 ∧ ok c ≠ 0) ∨
    (k (oa c / 4) c = 0 ∧ (∀ f, f < fc → FL (4 * c + f) ≠ -1) ∧ (1 ≤ dm_s8 (fun l => dm_lv (k l c)) ∨ dm_s8 (fun l => dm_sb (k l c)) = 0))
end
section
theorem dm_max_comm (x y v : Int32) : (if (if v < x then x else v) < y then y else (if v < x then x else v)) = (if (if v < y then y else v) < x then x else (if v < y then y else v)) := by
  by_cases h1 : v < x
  · by_cases h2 : v < y
    · rw [if_pos h1, if_pos h2]
      by_cases h3 : x < y
      · rw [if_pos h3, if_neg (by rw [Int32.lt_iff_toInt_lt] at *; omega)]
      · rw [if_neg h3]
        by_cases h4 : y < x
        · rw [if_pos h4]
        · rw [if_neg h4]
          apply Int32.toInt_inj.mp
          rw [Int32.lt_iff_toInt_lt] at h3 h4
          omega
    · rw [if_pos h1, if_neg h2, if_pos h1, if_neg (by rw [Int32.lt_iff_toInt_lt] at *; omega)]
  · by_cases h2 : v < y
    · rw [if_neg h1, if_pos h2, if_neg (by rw [Int32.lt_iff_toInt_lt] at *; omega)]
    · rw [if_neg h1, if_neg h2, if_neg h1]
theorem dm_app0 (x a v : Int32) : dm_app 0 x a v = v := by simp [dm_app]
theorem dm_app2 (x a v : Int32) : dm_app 2 x a v = v + x := by simp [dm_app]
theorem dm_app3 (x a v : Int32) : dm_app 3 x a v = if v < x then x else v := by simp [dm_app]
theorem dm_app5 (x a v : Int32) : dm_app 5 x a v = if v = a then x else v := by simp [dm_app]
theorem dm_app_comm {kd : Nat} (h : kd = 0 ∨ kd = 2 ∨ kd = 3) (x y a b v : Int32) : dm_app kd x a (dm_app kd y b v) = dm_app kd y b (dm_app kd x a v) := by
  rcases h with rfl | rfl | rfl
  · rw [dm_app0, dm_app0, dm_app0, dm_app0]
  · rw [dm_app2, dm_app2, dm_app2, dm_app2, Int32.add_assoc, Int32.add_comm y x, ← Int32.add_assoc]
  · rw [dm_app3, dm_app3, dm_app3, dm_app3]; exact dm_max_comm y x v
section
variable {oc ok oa pf : Nat → Nat} {opn acc : Nat → Int32} {A c e : Nat} {v : Int32}
theorem dm_a1_comm (hp : ∀ e, e < 4 → e ≠ c → oc e = 1 → oa e = oa c → ok c = ok e ∧ (ok c = 0 ∨ ok c = 2 ∨ ok c = 3)) (hA : oa c = A) (he : e < 4) (hne : e ≠ c) (v : Int32) :
    dm_a1 oc ok oa pf opn acc A e (dm_app (ok c) (opn c) (acc c) v) = dm_app (ok c) (opn c) (acc c) (dm_a1 oc ok oa pf opn acc A e v) := by
  rw [dm_a1, dm_a1]
  by_cases h : oc e = 1 ∧ pf e = 1 ∧ oa e = A
  · rw [if_pos h, if_pos h]
    obtain ⟨h1, h2⟩ := hp e he hne h.1 (h.2.2.trans hA.symm)
    rw [← h1]
    exact dm_app_comm h2 _ _ _ _ _
  · rw [if_neg h, if_neg h]
theorem dm_a1_id (h : ¬ (oc e = 1 ∧ pf e = 1 ∧ oa e = A)) : dm_a1 oc ok oa pf opn acc A e v = v := by rw [dm_a1, if_neg h]
theorem dm_a1_do (h : oc e = 1 ∧ pf e = 1 ∧ oa e = A) : dm_a1 oc ok oa pf opn acc A e v = dm_app (ok e) (opn e) (acc e) v := by rw [dm_a1, if_pos h]
theorem dm_a1_eq {oc' pf' : Nat → Nat} {acc' : Nat → Int32} (h1 : oc' e = oc e) (h2 : pf' e = pf e) (h3 : acc' e = acc e) : dm_a1 oc' ok oa pf' opn acc' A e v = dm_a1 oc ok oa pf opn acc A e v := by rw [dm_a1, dm_a1, h1, h2, h3]
/-- an operation is performed -/
theorem dm_fd_perf (hc : c < 4) (ho : oc c = 1) (hf : pf c = 0) (hA : oa c = A) (hp : ∀ e, e < 4 → e ≠ c → oc e = 1 → oa e = oa c → ok c = ok e ∧ (ok c = 0 ∨ ok c = 2 ∨ ok c = 3)) :
    dm_fd oc ok oa (dm_fu pf c 1) opn acc A v = dm_app (ok c) (opn c) (acc c) (dm_fd oc ok oa pf opn acc A v) := by
  have q1 : ∀ w, dm_a1 oc ok oa (dm_fu pf c 1) opn acc A c w = dm_app (ok c) (opn c) (acc c) w := fun w => dm_a1_do ⟨ho, dm_fs, hA⟩
  have q2 : ∀ w, dm_a1 oc ok oa pf opn acc A c w = w := fun w => dm_a1_id (by omega)
  have q3 : ∀ e w, e ≠ c → dm_a1 oc ok oa (dm_fu pf c 1) opn acc A e w = dm_a1 oc ok oa pf opn acc A e w := fun e w h => dm_a1_eq rfl (dm_fn h) rfl
  have q4 := fun e (he : e < 4) (hne : e ≠ c) w => dm_a1_comm (pf := pf) (opn := opn) (acc := acc) hp hA he hne w
  simp only [dm_fd]
  rcases dm_lt4 hc with rfl | rfl | rfl | rfl
  · rw [q1, q2, q3 1 _ (by omega), q3 2 _ (by omega), q3 3 _ (by omega), q4 1 (by omega) (by omega), q4 2 (by omega) (by omega), q4 3 (by omega) (by omega)]
  · rw [q1, q2, q3 0 _ (by omega), q3 2 _ (by omega), q3 3 _ (by omega), q4 2 (by omega) (by omega), q4 3 (by omega) (by omega)]
  · rw [q1, q2, q3 1 _ (by omega), q3 0 _ (by omega), q3 3 _ (by omega), q4 3 (by omega) (by omega)]
  · rw [q1, q2, q3 1 _ (by omega), q3 2 _ (by omega), q3 0 _ (by omega)]
theorem dm_fd_ne {pf' : Nat → Nat} (h : ∀ e, e < 4 → oa e = A → pf' e = pf e) : dm_fd oc ok oa pf' opn acc A v = dm_fd oc ok oa pf opn acc A v := by
  have q : ∀ e w, e < 4 → dm_a1 oc ok oa pf' opn acc A e w = dm_a1 oc ok oa pf opn acc A e w := fun e w he => by
    rw [dm_a1, dm_a1]
    by_cases g : oa e = A
    · rw [h e he g]
    · rw [if_neg (by omega), if_neg (by omega)]
  simp only [dm_fd]
  rw [q 0 _ (by omega), q 1 _ (by omega), q 2 _ (by omega), q 3 _ (by omega)]
/-- nobody has changed the word -/
theorem dm_fd_id (h : ∀ e, e < 4 → oc e = 1 → pf e = 1 → oa e = A → ok e = 0) : dm_fd oc ok oa pf opn acc A v = v := by
  have q : ∀ e w, e < 4 → dm_a1 oc ok oa pf opn acc A e w = w := fun e w he => by
    rw [dm_a1]
    by_cases g : oc e = 1 ∧ pf e = 1 ∧ oa e = A
    · rw [if_pos g, h e he g.1 g.2.1 g.2.2, dm_app0]
    · rw [if_neg g]
  simp only [dm_fd]
  rw [q 0 _ (by omega), q 1 _ (by omega), q 2 _ (by omega), q 3 _ (by omega)]
/-- an operation is closed -/
theorem dm_fd_fin {acc' : Nat → Int32} (hc : c < 4) (ho : oc c = 1) (hf : pf c = 1) (hA : oa c = A) (ha : ∀ e, e ≠ c → acc' e = acc e) (hp : ∀ e, e < 4 → e ≠ c → oc e = 1 → oa e = oa c → ok c = ok e ∧ (ok c = 0 ∨ ok c = 2 ∨ ok c = 3)) :
    dm_fd (dm_fu oc c 0) ok oa (dm_fu pf c 0) opn acc' A (dm_app (ok c) (opn c) (acc c) v) = dm_fd oc ok oa pf opn acc A v := by
  have q1 : ∀ w, dm_a1 oc ok oa pf opn acc A c w = dm_app (ok c) (opn c) (acc c) w := fun w => dm_a1_do ⟨ho, hf, hA⟩
  have q2 : ∀ w, dm_a1 (dm_fu oc c 0) ok oa (dm_fu pf c 0) opn acc' A c w = w := fun w => dm_a1_id (by rw [dm_fs]; omega)
  have q3 : ∀ e w, e ≠ c → dm_a1 (dm_fu oc c 0) ok oa (dm_fu pf c 0) opn acc' A e w = dm_a1 oc ok oa pf opn acc A e w := fun e w h => dm_a1_eq (dm_fn h) (dm_fn h) (ha e h)
  have q4 := fun e (he : e < 4) (hne : e ≠ c) w => dm_a1_comm (pf := pf) (opn := opn) (acc := acc) hp hA he hne w
  simp only [dm_fd]
  rcases dm_lt4 hc with rfl | rfl | rfl | rfl
  · rw [q1, q2, q3 1 _ (by omega), q3 2 _ (by omega), q3 3 _ (by omega)]
  · rw [q1, q2, q3 0 _ (by omega), q3 2 _ (by omega), q3 3 _ (by omega), q4 0 (by omega) (by omega)]
  · rw [q1, q2, q3 1 _ (by omega), q3 0 _ (by omega), q3 3 _ (by omega), q4 0 (by omega) (by omega), q4 1 (by omega) (by omega)]
  · rw [q1, q2, q3 1 _ (by omega), q3 2 _ (by omega), q3 0 _ (by omega), q4 0 (by omega) (by omega), q4 1 (by omega) (by omega), q4 2 (by omega) (by omega)]
theorem dm_fd_fin_ne {acc' : Nat → Int32} (hA : oa c ≠ A) (ha : ∀ e, e ≠ c → acc' e = acc e) :
    dm_fd (dm_fu oc c 0) ok oa (dm_fu pf c 0) opn acc' A v = dm_fd oc ok oa pf opn acc A v := by
  have q : ∀ e w, dm_a1 (dm_fu oc c 0) ok oa (dm_fu pf c 0) opn acc' A e w = dm_a1 oc ok oa pf opn acc A e w := fun e w => by
    by_cases g : e = c
    · subst g; rw [dm_a1_id (fun z => hA z.2.2), dm_a1_id (fun z => hA z.2.2)]
    · exact dm_a1_eq (dm_fn g) (dm_fn g) (ha e g)
  simp only [dm_fd, q]
end
end
section
def dm_X (cc lc fc : Nat) (k gr : Nat → Nat → Nat) (ac : Nat → Nat → Int) (fr d nd : Nat → Nat → Nat) (aw : Nat → Nat) (n nq : Nat → Nat → Nat → Nat) (R dI dA : Nat → Nat) (V : Nat → Nat → Int32) (oc ok oa pf cu : Nat → Nat) (val : Nat → Int32) (M : Nat) (a_opKind a_opAddress a_opOperand a_opResult a_opPerformed a_acc a_nextVictim a_frameLine a_frameState a_frameTarget a_frameAcks a_frameGranted a_frameWords a_memory a_current a_homeOwner a_homeSharers a_homeNextOwner a_homeNextSharers a_homeBusy a_homeAwaits a_queueHead a_queueLength a_queueType a_queueCore a_queueInfo a_queueWords a_msgType a_msgTo a_msgLine a_msgCore a_msgInfo a_msgAcks a_msgWords : Nat → Int32) : Prop :=
  (2 ≤ cc ∧ cc ≤ 4 ∧ 1 ≤ lc ∧ lc ≤ 8 ∧ 1 ≤ fc ∧ fc ≤ 4) ∧
  dm_RF cc lc fc k gr ac fr V a_frameLine a_frameState a_frameTarget a_frameAcks a_frameGranted a_frameWords ∧
  dm_RH lc d nd aw a_homeOwner a_homeSharers a_homeNextOwner a_homeNextSharers a_homeBusy a_homeAwaits ∧
  dm_RM lc k n dI cu V a_memory ∧
  dm_RQ lc k V nq a_queueHead a_queueLength a_queueType a_queueCore a_queueInfo a_queueWords ∧
  dm_RP lc k V R dI dA n M a_msgType a_msgTo a_msgLine a_msgCore a_msgInfo a_msgAcks a_msgWords ∧
  dm_RO cc lc oc ok oa pf a_opKind a_opAddress a_opPerformed ∧
  dm_RV lc oc ok oa pf V val a_opOperand a_opResult a_acc ∧
  dm_RC lc cu oc ok oa a_current ∧ dm_RN cc fc a_nextVictim
def dm_LL (lc : Nat) (k gr : Nat → Nat → Nat) (ac : Nat → Nat → Int) (d nd : Nat → Nat → Nat) (aw : Nat → Nat) (n nq : Nat → Nat → Nat → Nat) (R dI dA cu : Nat → Nat) : Prop :=
  ∀ l, l < lc → dm_L (k l) (gr l) (ac l) (d l) (nd l) (aw l) (n l) (nq l) (R l) (dI l) (dA l) (cu l)
theorem dm_LL_set {lc l : Nat} {k gr : Nat → Nat → Nat} {ac : Nat → Nat → Int} {d nd : Nat → Nat → Nat} {aw : Nat → Nat} {n nq : Nat → Nat → Nat → Nat} {R dI dA cu : Nat → Nat} {k' gr' : Nat → Nat} {ac' : Nat → Int} {d' nd' : Nat → Nat} {aw' : Nat} {n' nq' : Nat → Nat → Nat} {R' dI' dA' : Nat}
    (h : dm_LL lc k gr ac d nd aw n nq R dI dA cu) (h1 : dm_L k' gr' ac' d' nd' aw' n' nq' R' dI' dA' (cu l)) :
    dm_LL lc (dm_fu k l k') (dm_fu gr l gr') (dm_fu ac l ac') (dm_fu d l d') (dm_fu nd l nd') (dm_fu aw l aw') (dm_fu n l n') (dm_fu nq l nq') (dm_fu R l R') (dm_fu dI l dI') (dm_fu dA l dA') cu := by
  intro x hx
  by_cases e : x = l
  · subst e; simp only [dm_fs]; exact h1
  · simp only [dm_fn e]; exact h x hx
section
variable {cc lc fc M : Nat} {k gr fr d nd : Nat → Nat → Nat} {ac : Nat → Nat → Int} {aw R dI dA cu oc ok oa pf : Nat → Nat} {n nq : Nat → Nat → Nat → Nat} {V : Nat → Nat → Int32} {val : Nat → Int32} {f_msgGetS f_msgGetM f_msgPut f_msgDone f_msgCopyBack f_msgFwdS f_msgFwdM f_msgInv f_msgAck f_msgData f_msgGrant f_msgPutAck f_stFree f_stS f_stE f_stM f_stIS f_stIM f_stSM f_stSI f_stEI f_stMI f_stII f_coreCount f_lineCount f_frameCount f_msgCount f_inType f_inTo f_inLine f_inCore f_inInfo f_inAcks : Int32} {a_opKind a_opAddress a_opOperand a_opResult a_opPerformed a_acc a_closedCount a_nextVictim a_frameLine a_frameState a_frameTarget a_frameAcks a_frameGranted a_frameWords a_memory a_current a_homeOwner a_homeSharers a_homeNextOwner a_homeNextSharers a_homeBusy a_homeAwaits a_queueHead a_queueLength a_queueType a_queueCore a_queueInfo a_queueWords a_msgType a_msgTo a_msgLine a_msgCore a_msgInfo a_msgAcks a_msgWords a_inWords : Nat → Int32}
end
end
section
theorem dm_f2self {α : Type} {f : Nat → Nat → α} {i j : Nat} : dm_f2 f i j (f i j) = f := by
  rw [dm_f2, dm_fself, dm_fself]
section
variable {lc M l t c s v : Nat} {k gr d nd : Nat → Nat → Nat} {ac : Nat → Nat → Int} {V : Nat → Nat → Int32} {aw R dI dA cu : Nat → Nat} {n nq : Nat → Nat → Nat → Nat} {X : Nat → Nat → Nat} {ty to ln co inf ak wds hd len mem : Nat → Int32}
theorem dm_RP_k (h : dm_RP lc k V R dI dA n M ty to ln co inf ak wds) (hv : (v ≠ 8 ∧ v ≠ 9) ∨ n l 2 c = 0) : dm_RP lc (dm_f2 k l c v) V R dI dA n M ty to ln co inf ak wds := by
  refine dm_RP_mono h fun l' t' c' hl' ht' hc' hn to co inf ak w hm => ?_
  obtain ⟨q1, q2, q3, q4, q5, q6, q7, q8⟩ := hm
  refine ⟨q1, fun z => ?_, q3, q4, q5, q6, q7, q8⟩
  rw [dm_f2v]
  by_cases e : l' = l ∧ c' = c
  · rw [if_pos e]
    rcases hv with hv | hv
    · exact ⟨fun y => absurd y hv.2, fun y => absurd y hv.1⟩
    · rw [z, e.1, e.2, hv] at hn; omega
  · rw [if_neg e]; exact q2 z
theorem dm_RQ_k (h : dm_RQ lc k V nq hd len ty co inf wds) (hv : (v ≠ 8 ∧ v ≠ 9) ∨ nq l 2 c = 0) : dm_RQ lc (dm_f2 k l c v) V nq hd len ty co inf wds := by
  refine dm_RQ_mono h fun l' t' c' hl' ht' hc' hn inf w hm z => ?_
  rw [dm_f2v]
  by_cases e : l' = l ∧ c' = c
  · rw [if_pos e]
    rcases hv with hv | hv
    · exact ⟨fun y => absurd y hv.2, fun y => absurd y hv.1⟩
    · rw [z, e.1, e.2, hv] at hn; omega
  · rw [if_neg e]; exact hm z
theorem dm_RM_kn (h : dm_RM lc k n dI cu V mem) (hm : l < lc → dm_mc (dm_fu (k l) c v) X (dI l) (cu l) → dm_mc (k l) (n l) (dI l) (cu l)) : dm_RM lc (dm_f2 k l c v) (dm_fu n l X) dI cu V mem := by
  intro x hx
  by_cases e : x = l
  · subst e; rw [dm_f2s, dm_fs]; exact fun g => h x hx (hm hx g)
  · rw [dm_f2n e, dm_fn e]; exact h x hx
theorem dm_LL_kn (h : dm_LL lc k gr ac d nd aw n nq R dI dA cu) (h1 : dm_L (dm_fu (k l) c v) (gr l) (ac l) (d l) (nd l) (aw l) X (nq l) (R l) (dI l) (dA l) (cu l)) : dm_LL lc (dm_f2 k l c v) gr ac d nd aw (dm_fu n l X) nq R dI dA cu := by
  have := dm_LL_set h h1
  simp only [dm_fself] at this
  exact this
end
section
variable {cc lc fc l c f v : Nat} {k gr fr : Nat → Nat → Nat} {ac : Nat → Nat → Int} {V : Nat → Nat → Int32} {FL FS FT FA FG FW : Nat → Int32} {s : Int32}
/-- only the state of a frame changes -/
theorem dm_RF_st (h : dm_RF cc lc fc k gr ac fr V FL FS FT FA FG FW) (hlc : lc ≤ 8) (hfc : fc ≤ 4) (hk : k l c ≠ 0) (hv : v ≠ 0) (hs : s = nI (dm_st v)) (hr : dm_ro v ≠ 0 → dm_ro (k l c) ≠ 0) :
    dm_RF cc lc fc (dm_f2 k l c v) gr ac fr V FL (upd FS (4 * c + fr l c) s) FT FA FG FW := by
  obtain ⟨h1, h2, h3, h4, h5, h6, h7⟩ := dm_RF_at h hk
  have := dm_RF_set (g := gr l c) (a := ac l c) (FS' := upd FS (4 * c + fr l c) s) (FT' := FT) (FA' := FA) (FG' := FG) (FW' := FW) h hlc hfc hk hv ⟨h2, by rw [pk_us, hs], h4, h5, h6, fun z i hi => h7 (z.imp hr id) i hi⟩ (fun j hj => ⟨pk_un hj, rfl, rfl, rfl, fun _ _ => rfl⟩)
  rw [dm_f2self, dm_f2self] at this
  exact this
end
section
variable {k gr d nd : Nat → Nat} {ac : Nat → Int} {aw : Nat} {n nq : Nat → Nat → Nat} {R dI dA cu c o t : Nat}
theorem dm_t_give (h : dm_L0 k gr ac d nd aw n nq R dI dA cu) (hc : c < 4) (h1 : 1 ≤ k c) (h3 : k c ≤ 3) : dm_L0 (dm_fu k c (k c + 6)) gr ac d nd aw (dm_i n 2 c) nq R dI dA cu ∧ dm_phi (dm_i n 2 c) nq gr ≤ dm_phi n nq gr + 2 := by
  have : k c = 1 ∨ k c = 2 ∨ k c = 3 := by omega
  rcases this with e | e | e
  · have q := dm_t_give1 h hc e
    have p := dm_p_give1 h hc e
    rw [e]; exact ⟨q, by omega⟩
  · have q := dm_t_give2 h hc e
    have p := dm_p_give2 h hc e
    rw [e]; exact ⟨q, by omega⟩
  · have q := dm_t_give3 h hc e
    have p := dm_p_give3 h hc e
    rw [e]; exact ⟨q, by omega⟩
theorem dm_t_fetch (h : dm_L0 k gr ac d nd aw n nq R dI dA cu) (hc : c < 4) (hk : k c = 0) (ht : t < 2) : dm_L0 (dm_fu k c (4 + t)) gr ac d nd aw (dm_i n t c) nq R dI dA cu ∧ dm_phi (dm_i n t c) nq gr ≤ dm_phi n nq gr + 9 := by
  have : t = 0 ∨ t = 1 := by omega
  rcases this with rfl | rfl
  · have p := dm_p_fetch0 h hc hk
    exact ⟨dm_t_fetch0 h hc hk, by omega⟩
  · have p := dm_p_fetch1 h hc hk
    exact ⟨dm_t_fetch1 h hc hk, by omega⟩
theorem dm_t_sp (h : dm_L0 k gr ac d nd aw n nq R dI dA cu) (hc : c < 4) (hn : 1 ≤ nq 2 c) (hw : aw = 0) : 7 ≤ k c ∧ k c ≤ 10 ∧ dm_L0 (dm_fu k c (k c + 7)) gr ac (dm_fu d c 0) nd 0 (dm_i n 11 c) (dm_d nq 2 c) R dI dA cu ∧ dm_phi (dm_i n 11 c) (dm_d nq 2 c) gr ≤ dm_phi n nq gr := by
  have hk := dm_w2_k (x := k c) (by have := (h.1 c hc).2.2.2.1; omega)
  rcases hk with e | e | e | e
  · have q := dm_t_sp7 h hc hn hw e
    have p := dm_p_sp7 h hc hn hw e
    rw [e]; exact ⟨by omega, by omega, q, by omega⟩
  · have q := dm_t_sp8 h hc hn hw e
    have p := dm_p_sp8 h hc hn hw e
    rw [e]; exact ⟨by omega, by omega, q, by omega⟩
  · have q := dm_t_sp9 h hc hn hw e
    have p := dm_p_sp9 h hc hn hw e
    rw [e]; exact ⟨by omega, by omega, q, by omega⟩
  · have q := dm_t_sp10 h hc hn hw e
    have p := dm_p_sp10 h hc hn hw e
    rw [e]; exact ⟨by omega, by omega, q, by omega⟩
theorem dm_t_enq (h : dm_L0 k gr ac d nd aw n nq R dI dA cu) (hc : c < 4) (ht : t < 3) (hn : 1 ≤ n t c) : dm_L0 k gr ac d nd aw (dm_d n t c) (dm_i nq t c) R dI dA cu ∧ dm_phi (dm_d n t c) (dm_i nq t c) gr + 1 ≤ dm_phi n nq gr := by
  have : t = 0 ∨ t = 1 ∨ t = 2 := by omega
  rcases this with rfl | rfl | rfl
  · have p := dm_p_enq0 h hc hn
    exact ⟨dm_t_enq0 h hc hn, by omega⟩
  · have p := dm_p_enq1 h hc hn
    exact ⟨dm_t_enq1 h hc hn, by omega⟩
  · have p := dm_p_enq2 h hc hn
    exact ⟨dm_t_enq2 h hc hn, by omega⟩
theorem dm_NQ_le (h : dm_L0 k gr ac d nd aw n nq R dI dA cu) (hc : c < 4) (ht : t < 3) (hn : 1 ≤ n t c) : dm_NQ nq < 4 := by
  have q := (dm_t_enq h hc ht hn).1
  have w : ∀ e, e < 4 → dm_i nq t c 0 e + dm_i nq t c 1 e + dm_i nq t c 2 e ≤ 1 := fun e he => by
    have a := q.1 e he
    obtain ⟨x1, x2, x3, x4, _⟩ := a
    have y : dm_w0 (k e) + dm_w1 (k e) + dm_w2 (k e) ≤ 1 := by
      simp only [dm_w0, dm_w1, dm_w2]; split <;> split <;> split <;> omega
    omega
  have e := dm_NQ_i (nq := nq) ht hc
  have w0 := w 0 (by omega)
  have w1 := w 1 (by omega)
  have w2 := w 2 (by omega)
  have w3 := w 3 (by omega)
  simp only [dm_NQ, dm_s4] at e ⊢
  omega
end
end
section
/-! the walks of the small methods, over the concrete state -/
theorem dm_ue {f : Nat → Int32} {x v : Int32} {i : Nat} (h : x.toNatClampNeg = i) : upd f x.toNatClampNeg v = upd f i v := by rw [h]
theorem dm_ub0 {f : Nat → Int32} {x : Int32} {i : Nat} (h : x.toNatClampNeg = i) : upd f x.toNatClampNeg (vp_nar .boolean 0) = upd f i 0 := by rw [h]; rfl
theorem dm_ub1 {f : Nat → Int32} {x : Int32} {i : Nat} (h : x.toNatClampNeg = i) : upd f x.toNatClampNeg (vp_nar .boolean 1) = upd f i 1 := by rw [h]; rfl
theorem dm_ix (s m : Nat) : nI s * 4 + nI m = nI (4 * s + m) := by
  rw [show (4 : Int32) = nI 4 from rfl, pk_mul, nI_add, Nat.mul_comm]
section
variable {f_msgGetS f_msgGetM f_msgPut f_msgDone f_msgCopyBack f_msgFwdS f_msgFwdM f_msgInv f_msgAck f_msgData f_msgGrant f_msgPutAck f_stFree f_stS f_stE f_stM f_stIS f_stIM f_stSM f_stSI f_stEI f_stMI f_stII f_coreCount f_lineCount f_frameCount f_msgCount f_inType f_inTo f_inLine f_inCore f_inInfo f_inAcks : Int32} {a_opKind a_opAddress a_opOperand a_opResult a_opPerformed a_acc a_closedCount a_nextVictim a_frameLine a_frameState a_frameTarget a_frameAcks a_frameGranted a_frameWords a_memory a_current a_homeOwner a_homeSharers a_homeNextOwner a_homeNextSharers a_homeBusy a_homeAwaits a_queueHead a_queueLength a_queueType a_queueCore a_queueInfo a_queueWords a_msgType a_msgTo a_msgLine a_msgCore a_msgInfo a_msgAcks a_msgWords a_inWords : Nat → Int32}
theorem dm_el {P : SX → Prop} (h : ∀ (f_msgGetS f_msgGetM f_msgPut f_msgDone f_msgCopyBack f_msgFwdS f_msgFwdM f_msgInv f_msgAck f_msgData f_msgGrant f_msgPutAck f_stFree f_stS f_stE f_stM f_stIS f_stIM f_stSM f_stSI f_stEI f_stMI f_stII f_coreCount f_lineCount f_frameCount f_msgCount f_inType f_inTo f_inLine f_inCore f_inInfo f_inAcks : Int32) (a_opKind a_opAddress a_opOperand a_opResult a_opPerformed a_acc a_closedCount a_nextVictim a_frameLine a_frameState a_frameTarget a_frameAcks a_frameGranted a_frameWords a_memory a_current a_homeOwner a_homeSharers a_homeNextOwner a_homeNextSharers a_homeBusy a_homeAwaits a_queueHead a_queueLength a_queueType a_queueCore a_queueInfo a_queueWords a_msgType a_msgTo a_msgLine a_msgCore a_msgInfo a_msgAcks a_msgWords a_inWords : Nat → Int32), P (f_msgGetS, f_msgGetM, f_msgPut, f_msgDone, f_msgCopyBack, f_msgFwdS, f_msgFwdM, f_msgInv, f_msgAck, f_msgData, f_msgGrant, f_msgPutAck, f_stFree, f_stS, f_stE, f_stM, f_stIS, f_stIM, f_stSM, f_stSI, f_stEI, f_stMI, f_stII, f_coreCount, f_lineCount, f_frameCount, f_msgCount, f_inType, f_inTo, f_inLine, f_inCore, f_inInfo, f_inAcks, a_opKind, a_opAddress, a_opOperand, a_opResult, a_opPerformed, a_acc, a_closedCount, a_nextVictim, a_frameLine, a_frameState, a_frameTarget, a_frameAcks, a_frameGranted, a_frameWords, a_memory, a_current, a_homeOwner, a_homeSharers, a_homeNextOwner, a_homeNextSharers, a_homeBusy, a_homeAwaits, a_queueHead, a_queueLength, a_queueType, a_queueCore, a_queueInfo, a_queueWords, a_msgType, a_msgTo, a_msgLine, a_msgCore, a_msgInfo, a_msgAcks, a_msgWords, a_inWords)) (u : SX) : P u := match u with | (f_msgGetS, f_msgGetM, f_msgPut, f_msgDone, f_msgCopyBack, f_msgFwdS, f_msgFwdM, f_msgInv, f_msgAck, f_msgData, f_msgGrant, f_msgPutAck, f_stFree, f_stS, f_stE, f_stM, f_stIS, f_stIM, f_stSM, f_stSI, f_stEI, f_stMI, f_stII, f_coreCount, f_lineCount, f_frameCount, f_msgCount, f_inType, f_inTo, f_inLine, f_inCore, f_inInfo, f_inAcks, a_opKind, a_opAddress, a_opOperand, a_opResult, a_opPerformed, a_acc, a_closedCount, a_nextVictim, a_frameLine, a_frameState, a_frameTarget, a_frameAcks, a_frameGranted, a_frameWords, a_memory, a_current, a_homeOwner, a_homeSharers, a_homeNextOwner, a_homeNextSharers, a_homeBusy, a_homeAwaits, a_queueHead, a_queueLength, a_queueType, a_queueCore, a_queueInfo, a_queueWords, a_msgType, a_msgTo, a_msgLine, a_msgCore, a_msgInfo, a_msgAcks, a_msgWords, a_inWords) => h f_msgGetS f_msgGetM f_msgPut f_msgDone f_msgCopyBack f_msgFwdS f_msgFwdM f_msgInv f_msgAck f_msgData f_msgGrant f_msgPutAck f_stFree f_stS f_stE f_stM f_stIS f_stIM f_stSM f_stSI f_stEI f_stMI f_stII f_coreCount f_lineCount f_frameCount f_msgCount f_inType f_inTo f_inLine f_inCore f_inInfo f_inAcks a_opKind a_opAddress a_opOperand a_opResult a_opPerformed a_acc a_closedCount a_nextVictim a_frameLine a_frameState a_frameTarget a_frameAcks a_frameGranted a_frameWords a_memory a_current a_homeOwner a_homeSharers a_homeNextOwner a_homeNextSharers a_homeBusy a_homeAwaits a_queueHead a_queueLength a_queueType a_queueCore a_queueInfo a_queueWords a_msgType a_msgTo a_msgLine a_msgCore a_msgInfo a_msgAcks a_msgWords a_inWords
theorem dm_w_post {post : Int32 → SX → Prop} {M : Nat} (p0 p1 p2 p3 p4 p5 : Int32) (hM : M < 128) (K : post (nI M) (f_msgGetS, f_msgGetM, f_msgPut, f_msgDone, f_msgCopyBack, f_msgFwdS, f_msgFwdM, f_msgInv, f_msgAck, f_msgData, f_msgGrant, f_msgPutAck, f_stFree, f_stS, f_stE, f_stM, f_stIS, f_stIM, f_stSM, f_stSI, f_stEI, f_stMI, f_stII, f_coreCount, f_lineCount, f_frameCount, nI (M + 1), f_inType, f_inTo, f_inLine, f_inCore, f_inInfo, f_inAcks, a_opKind, a_opAddress, a_opOperand, a_opResult, a_opPerformed, a_acc, a_closedCount, a_nextVictim, a_frameLine, a_frameState, a_frameTarget, a_frameAcks, a_frameGranted, a_frameWords, a_memory, a_current, a_homeOwner, a_homeSharers, a_homeNextOwner, a_homeNextSharers, a_homeBusy, a_homeAwaits, a_queueHead, a_queueLength, a_queueType, a_queueCore, a_queueInfo, a_queueWords, upd a_msgType M p0, upd a_msgTo M p1, upd a_msgLine M p2, upd a_msgCore M p3, upd a_msgInfo M p4, upd a_msgAcks M p5, a_msgWords, a_inWords)) : wpX_post post (f_msgGetS, f_msgGetM, f_msgPut, f_msgDone, f_msgCopyBack, f_msgFwdS, f_msgFwdM, f_msgInv, f_msgAck, f_msgData, f_msgGrant, f_msgPutAck, f_stFree, f_stS, f_stE, f_stM, f_stIS, f_stIM, f_stSM, f_stSI, f_stEI, f_stMI, f_stII, f_coreCount, f_lineCount, f_frameCount, nI M, f_inType, f_inTo, f_inLine, f_inCore, f_inInfo, f_inAcks, a_opKind, a_opAddress, a_opOperand, a_opResult, a_opPerformed, a_acc, a_closedCount, a_nextVictim, a_frameLine, a_frameState, a_frameTarget, a_frameAcks, a_frameGranted, a_frameWords, a_memory, a_current, a_homeOwner, a_homeSharers, a_homeNextOwner, a_homeNextSharers, a_homeBusy, a_homeAwaits, a_queueHead, a_queueLength, a_queueType, a_queueCore, a_queueInfo, a_queueWords, a_msgType, a_msgTo, a_msgLine, a_msgCore, a_msgInfo, a_msgAcks, a_msgWords, a_inWords) p0 p1 p2 p3 p4 p5 :=
  have hi : vp_in (nI M) 128 := vp_in_nI hM (by omega)
  have hc : (nI M).toNatClampNeg = M := nI_clamp (by omega)
  br_t (nI_lt (b := 128) hM (by decide)) (nm_r (nI_1 M) ⟨hi, nm_r (dm_ue hc) ⟨hi, nm_r (dm_ue hc) ⟨hi, nm_r (dm_ue hc) ⟨hi, nm_r (dm_ue hc) ⟨hi, nm_r (dm_ue hc) ⟨hi, nm_r (dm_ue hc) K⟩⟩⟩⟩⟩⟩)
theorem dm_w_attF_l {post : SX → Prop} {s k : Nat} (hs : s < 128) (hk : k < 16) (w : Nat → Int32) (K : post (f_msgGetS, f_msgGetM, f_msgPut, f_msgDone, f_msgCopyBack, f_msgFwdS, f_msgFwdM, f_msgInv, f_msgAck, f_msgData, f_msgGrant, f_msgPutAck, f_stFree, f_stS, f_stE, f_stM, f_stIS, f_stIM, f_stSM, f_stSI, f_stEI, f_stMI, f_stII, f_coreCount, f_lineCount, f_frameCount, f_msgCount, f_inType, f_inTo, f_inLine, f_inCore, f_inInfo, f_inAcks, a_opKind, a_opAddress, a_opOperand, a_opResult, a_opPerformed, a_acc, a_closedCount, a_nextVictim, a_frameLine, a_frameState, a_frameTarget, a_frameAcks, a_frameGranted, a_frameWords, a_memory, a_current, a_homeOwner, a_homeSharers, a_homeNextOwner, a_homeNextSharers, a_homeBusy, a_homeAwaits, a_queueHead, a_queueLength, a_queueType, a_queueCore, a_queueInfo, a_queueWords, a_msgType, a_msgTo, a_msgLine, a_msgCore, a_msgInfo, a_msgAcks, dm_cp w (4 * s) a_frameWords (4 * k) 4, a_inWords)) : ∀ j m : Nat, m + j = 4 → wX_attachFrame_7 post (nI s) (nI k) f_msgGetS f_msgGetM f_msgPut f_msgDone f_msgCopyBack f_msgFwdS f_msgFwdM f_msgInv f_msgAck f_msgData f_msgGrant f_msgPutAck f_stFree f_stS f_stE f_stM f_stIS f_stIM f_stSM f_stSI f_stEI f_stMI f_stII f_coreCount f_lineCount f_frameCount f_msgCount f_inType f_inTo f_inLine f_inCore f_inInfo f_inAcks (j + 1) (nI m) a_opKind a_opAddress a_opOperand a_opResult a_opPerformed a_acc a_closedCount a_nextVictim a_frameLine a_frameState a_frameTarget a_frameAcks a_frameGranted a_frameWords a_memory a_current a_homeOwner a_homeSharers a_homeNextOwner a_homeNextSharers a_homeBusy a_homeAwaits a_queueHead a_queueLength a_queueType a_queueCore a_queueInfo a_queueWords a_msgType a_msgTo a_msgLine a_msgCore a_msgInfo a_msgAcks (dm_cp w (4 * s) a_frameWords (4 * k) m) a_inWords := by
  intro j
  induction j with
  | zero =>
    intro m hm
    obtain rfl : m = 4 := by omega
    exact br_t (nI_le (a := 4) (b := 4) (by omega) (by decide)) K
  | succ j ih =>
    intro m hm
    have e1 := dm_ix s m
    have e2 := dm_ix k m
    have c1 : (nI s * 4 + nI m).toNatClampNeg = 4 * s + m := by rw [e1, nI_clamp (by omega)]
    have c2 : (nI k * 4 + nI m).toNatClampNeg = 4 * k + m := by rw [e2, nI_clamp (by omega)]
    refine br_f (nI_ge (b := 4) (by omega) (by decide)) ⟨by rw [e2]; exact vp_in_nI (by omega) (by omega), by rw [e1]; exact vp_in_nI (by omega) (by omega), nm_r (e' := dm_cp w (4 * s) a_frameWords (4 * k) (m + 1)) ?_ (nm_r (nI_1 m) (ih (m + 1) (by omega)))⟩
    rw [c1, c2]; exact dm_cpS _ _ _ _ _
theorem dm_w_attF {post : SX → Prop} {s k : Nat} (hs : s < 128) (hk : k < 16) (K : post (f_msgGetS, f_msgGetM, f_msgPut, f_msgDone, f_msgCopyBack, f_msgFwdS, f_msgFwdM, f_msgInv, f_msgAck, f_msgData, f_msgGrant, f_msgPutAck, f_stFree, f_stS, f_stE, f_stM, f_stIS, f_stIM, f_stSM, f_stSI, f_stEI, f_stMI, f_stII, f_coreCount, f_lineCount, f_frameCount, f_msgCount, f_inType, f_inTo, f_inLine, f_inCore, f_inInfo, f_inAcks, a_opKind, a_opAddress, a_opOperand, a_opResult, a_opPerformed, a_acc, a_closedCount, a_nextVictim, a_frameLine, a_frameState, a_frameTarget, a_frameAcks, a_frameGranted, a_frameWords, a_memory, a_current, a_homeOwner, a_homeSharers, a_homeNextOwner, a_homeNextSharers, a_homeBusy, a_homeAwaits, a_queueHead, a_queueLength, a_queueType, a_queueCore, a_queueInfo, a_queueWords, a_msgType, a_msgTo, a_msgLine, a_msgCore, a_msgInfo, a_msgAcks, dm_cp a_msgWords (4 * s) a_frameWords (4 * k) 4, a_inWords)) : wpX_attachFrame post (f_msgGetS, f_msgGetM, f_msgPut, f_msgDone, f_msgCopyBack, f_msgFwdS, f_msgFwdM, f_msgInv, f_msgAck, f_msgData, f_msgGrant, f_msgPutAck, f_stFree, f_stS, f_stE, f_stM, f_stIS, f_stIM, f_stSM, f_stSI, f_stEI, f_stMI, f_stII, f_coreCount, f_lineCount, f_frameCount, f_msgCount, f_inType, f_inTo, f_inLine, f_inCore, f_inInfo, f_inAcks, a_opKind, a_opAddress, a_opOperand, a_opResult, a_opPerformed, a_acc, a_closedCount, a_nextVictim, a_frameLine, a_frameState, a_frameTarget, a_frameAcks, a_frameGranted, a_frameWords, a_memory, a_current, a_homeOwner, a_homeSharers, a_homeNextOwner, a_homeNextSharers, a_homeBusy, a_homeAwaits, a_queueHead, a_queueLength, a_queueType, a_queueCore, a_queueInfo, a_queueWords, a_msgType, a_msgTo, a_msgLine, a_msgCore, a_msgInfo, a_msgAcks, a_msgWords, a_inWords) (nI s) (nI k) := by
  have h := dm_w_attF_l hs hk a_msgWords K 4 0 (by omega)
  rw [dm_cp0] at h
  exact br_t (nI_pos' (by omega)) ⟨5, h⟩
theorem dm_w_attM_l {post : SX → Prop} {s k : Nat} (hs : s < 128) (hk : k < 8) (w : Nat → Int32) (K : post (f_msgGetS, f_msgGetM, f_msgPut, f_msgDone, f_msgCopyBack, f_msgFwdS, f_msgFwdM, f_msgInv, f_msgAck, f_msgData, f_msgGrant, f_msgPutAck, f_stFree, f_stS, f_stE, f_stM, f_stIS, f_stIM, f_stSM, f_stSI, f_stEI, f_stMI, f_stII, f_coreCount, f_lineCount, f_frameCount, f_msgCount, f_inType, f_inTo, f_inLine, f_inCore, f_inInfo, f_inAcks, a_opKind, a_opAddress, a_opOperand, a_opResult, a_opPerformed, a_acc, a_closedCount, a_nextVictim, a_frameLine, a_frameState, a_frameTarget, a_frameAcks, a_frameGranted, a_frameWords, a_memory, a_current, a_homeOwner, a_homeSharers, a_homeNextOwner, a_homeNextSharers, a_homeBusy, a_homeAwaits, a_queueHead, a_queueLength, a_queueType, a_queueCore, a_queueInfo, a_queueWords, a_msgType, a_msgTo, a_msgLine, a_msgCore, a_msgInfo, a_msgAcks, dm_cp w (4 * s) a_memory (4 * k) 4, a_inWords)) : ∀ j m : Nat, m + j = 4 → wX_attachMemory_7 post (nI s) (nI k) f_msgGetS f_msgGetM f_msgPut f_msgDone f_msgCopyBack f_msgFwdS f_msgFwdM f_msgInv f_msgAck f_msgData f_msgGrant f_msgPutAck f_stFree f_stS f_stE f_stM f_stIS f_stIM f_stSM f_stSI f_stEI f_stMI f_stII f_coreCount f_lineCount f_frameCount f_msgCount f_inType f_inTo f_inLine f_inCore f_inInfo f_inAcks (j + 1) (nI m) a_opKind a_opAddress a_opOperand a_opResult a_opPerformed a_acc a_closedCount a_nextVictim a_frameLine a_frameState a_frameTarget a_frameAcks a_frameGranted a_frameWords a_memory a_current a_homeOwner a_homeSharers a_homeNextOwner a_homeNextSharers a_homeBusy a_homeAwaits a_queueHead a_queueLength a_queueType a_queueCore a_queueInfo a_queueWords a_msgType a_msgTo a_msgLine a_msgCore a_msgInfo a_msgAcks (dm_cp w (4 * s) a_memory (4 * k) m) a_inWords := by
  intro j
  induction j with
  | zero =>
    intro m hm
    obtain rfl : m = 4 := by omega
    exact br_t (nI_le (a := 4) (b := 4) (by omega) (by decide)) K
  | succ j ih =>
    intro m hm
    have e1 := dm_ix s m
    have e2 := dm_ix k m
    have c1 : (nI s * 4 + nI m).toNatClampNeg = 4 * s + m := by rw [e1, nI_clamp (by omega)]
    have c2 : (nI k * 4 + nI m).toNatClampNeg = 4 * k + m := by rw [e2, nI_clamp (by omega)]
    refine br_f (nI_ge (b := 4) (by omega) (by decide)) ⟨by rw [e2]; exact vp_in_nI (by omega) (by omega), by rw [e1]; exact vp_in_nI (by omega) (by omega), nm_r (e' := dm_cp w (4 * s) a_memory (4 * k) (m + 1)) ?_ (nm_r (nI_1 m) (ih (m + 1) (by omega)))⟩
    rw [c1, c2]; exact dm_cpS _ _ _ _ _
theorem dm_w_attM {post : SX → Prop} {s k : Nat} (hs : s < 128) (hk : k < 8) (K : post (f_msgGetS, f_msgGetM, f_msgPut, f_msgDone, f_msgCopyBack, f_msgFwdS, f_msgFwdM, f_msgInv, f_msgAck, f_msgData, f_msgGrant, f_msgPutAck, f_stFree, f_stS, f_stE, f_stM, f_stIS, f_stIM, f_stSM, f_stSI, f_stEI, f_stMI, f_stII, f_coreCount, f_lineCount, f_frameCount, f_msgCount, f_inType, f_inTo, f_inLine, f_inCore, f_inInfo, f_inAcks, a_opKind, a_opAddress, a_opOperand, a_opResult, a_opPerformed, a_acc, a_closedCount, a_nextVictim, a_frameLine, a_frameState, a_frameTarget, a_frameAcks, a_frameGranted, a_frameWords, a_memory, a_current, a_homeOwner, a_homeSharers, a_homeNextOwner, a_homeNextSharers, a_homeBusy, a_homeAwaits, a_queueHead, a_queueLength, a_queueType, a_queueCore, a_queueInfo, a_queueWords, a_msgType, a_msgTo, a_msgLine, a_msgCore, a_msgInfo, a_msgAcks, dm_cp a_msgWords (4 * s) a_memory (4 * k) 4, a_inWords)) : wpX_attachMemory post (f_msgGetS, f_msgGetM, f_msgPut, f_msgDone, f_msgCopyBack, f_msgFwdS, f_msgFwdM, f_msgInv, f_msgAck, f_msgData, f_msgGrant, f_msgPutAck, f_stFree, f_stS, f_stE, f_stM, f_stIS, f_stIM, f_stSM, f_stSI, f_stEI, f_stMI, f_stII, f_coreCount, f_lineCount, f_frameCount, f_msgCount, f_inType, f_inTo, f_inLine, f_inCore, f_inInfo, f_inAcks, a_opKind, a_opAddress, a_opOperand, a_opResult, a_opPerformed, a_acc, a_closedCount, a_nextVictim, a_frameLine, a_frameState, a_frameTarget, a_frameAcks, a_frameGranted, a_frameWords, a_memory, a_current, a_homeOwner, a_homeSharers, a_homeNextOwner, a_homeNextSharers, a_homeBusy, a_homeAwaits, a_queueHead, a_queueLength, a_queueType, a_queueCore, a_queueInfo, a_queueWords, a_msgType, a_msgTo, a_msgLine, a_msgCore, a_msgInfo, a_msgAcks, a_msgWords, a_inWords) (nI s) (nI k) := by
  have h := dm_w_attM_l hs hk a_msgWords K 4 0 (by omega)
  rw [dm_cp0] at h
  exact br_t (nI_pos' (by omega)) ⟨5, h⟩
end
end
section
section
variable {f_msgGetS f_msgGetM f_msgPut f_msgDone f_msgCopyBack f_msgFwdS f_msgFwdM f_msgInv f_msgAck f_msgData f_msgGrant f_msgPutAck f_stFree f_stS f_stE f_stM f_stIS f_stIM f_stSM f_stSI f_stEI f_stMI f_stII f_coreCount f_lineCount f_frameCount f_msgCount f_inType f_inTo f_inLine f_inCore f_inInfo f_inAcks : Int32} {a_opKind a_opAddress a_opOperand a_opResult a_opPerformed a_acc a_closedCount a_nextVictim a_frameLine a_frameState a_frameTarget a_frameAcks a_frameGranted a_frameWords a_memory a_current a_homeOwner a_homeSharers a_homeNextOwner a_homeNextSharers a_homeBusy a_homeAwaits a_queueHead a_queueLength a_queueType a_queueCore a_queueInfo a_queueWords a_msgType a_msgTo a_msgLine a_msgCore a_msgInfo a_msgAcks a_msgWords a_inWords : Nat → Int32}
theorem dm_w_isCore {post : Int32 → Prop} {cc : Nat} {p0 : Int32} (hcc : cc ≤ 4) (h1 : ∀ c, c < cc → p0 = nI c → post 1) (h0 : (∀ c, c < cc → p0 ≠ nI c) → post 0) : wpX_isCore post (f_msgGetS, f_msgGetM, f_msgPut, f_msgDone, f_msgCopyBack, f_msgFwdS, f_msgFwdM, f_msgInv, f_msgAck, f_msgData, f_msgGrant, f_msgPutAck, f_stFree, f_stS, f_stE, f_stM, f_stIS, f_stIM, f_stSM, f_stSI, f_stEI, f_stMI, f_stII, nI cc, f_lineCount, f_frameCount, f_msgCount, f_inType, f_inTo, f_inLine, f_inCore, f_inInfo, f_inAcks, a_opKind, a_opAddress, a_opOperand, a_opResult, a_opPerformed, a_acc, a_closedCount, a_nextVictim, a_frameLine, a_frameState, a_frameTarget, a_frameAcks, a_frameGranted, a_frameWords, a_memory, a_current, a_homeOwner, a_homeSharers, a_homeNextOwner, a_homeNextSharers, a_homeBusy, a_homeAwaits, a_queueHead, a_queueLength, a_queueType, a_queueCore, a_queueInfo, a_queueWords, a_msgType, a_msgTo, a_msgLine, a_msgCore, a_msgInfo, a_msgAcks, a_msgWords, a_inWords) p0 := by
  refine br_c (fun a => h0 fun c hc e => ?_) (fun a => br_c (fun b => h0 fun c hc e => ?_) fun b => ?_)
  · subst e; exact nI_pos (by omega) a
  · subst e; exact nI_ge hc (by omega) b
  · obtain ⟨j, hj, rfl⟩ := nI_of a
    rw [nI_leI (by omega) hj] at b
    exact h1 j (by omega) rfl
theorem dm_w_isLine {post : Int32 → Prop} {lc : Nat} {p0 : Int32} (hlc : lc ≤ 8) (h1 : ∀ c, c < lc → p0 = nI c → post 1) (h0 : (∀ c, c < lc → p0 ≠ nI c) → post 0) : wpX_isLine post (f_msgGetS, f_msgGetM, f_msgPut, f_msgDone, f_msgCopyBack, f_msgFwdS, f_msgFwdM, f_msgInv, f_msgAck, f_msgData, f_msgGrant, f_msgPutAck, f_stFree, f_stS, f_stE, f_stM, f_stIS, f_stIM, f_stSM, f_stSI, f_stEI, f_stMI, f_stII, f_coreCount, nI lc, f_frameCount, f_msgCount, f_inType, f_inTo, f_inLine, f_inCore, f_inInfo, f_inAcks, a_opKind, a_opAddress, a_opOperand, a_opResult, a_opPerformed, a_acc, a_closedCount, a_nextVictim, a_frameLine, a_frameState, a_frameTarget, a_frameAcks, a_frameGranted, a_frameWords, a_memory, a_current, a_homeOwner, a_homeSharers, a_homeNextOwner, a_homeNextSharers, a_homeBusy, a_homeAwaits, a_queueHead, a_queueLength, a_queueType, a_queueCore, a_queueInfo, a_queueWords, a_msgType, a_msgTo, a_msgLine, a_msgCore, a_msgInfo, a_msgAcks, a_msgWords, a_inWords) p0 := by
  refine br_c (fun a => h0 fun c hc e => ?_) (fun a => br_c (fun b => h0 fun c hc e => ?_) fun b => ?_)
  · subst e; exact nI_pos (by omega) a
  · subst e; exact nI_ge hc (by omega) b
  · obtain ⟨j, hj, rfl⟩ := nI_of a
    rw [nI_leI (by omega) hj] at b
    exact h1 j (by omega) rfl
theorem dm_w_isAddress {post : Int32 → Prop} {lc : Nat} {p0 : Int32} (hlc : lc ≤ 8) (h1 : ∀ c, c < 4 * lc → p0 = nI c → post 1) (h0 : (∀ c, c < 4 * lc → p0 ≠ nI c) → post 0) : wpX_isAddress post (f_msgGetS, f_msgGetM, f_msgPut, f_msgDone, f_msgCopyBack, f_msgFwdS, f_msgFwdM, f_msgInv, f_msgAck, f_msgData, f_msgGrant, f_msgPutAck, f_stFree, f_stS, f_stE, f_stM, f_stIS, f_stIM, f_stSM, f_stSI, f_stEI, f_stMI, f_stII, f_coreCount, nI lc, f_frameCount, f_msgCount, f_inType, f_inTo, f_inLine, f_inCore, f_inInfo, f_inAcks, a_opKind, a_opAddress, a_opOperand, a_opResult, a_opPerformed, a_acc, a_closedCount, a_nextVictim, a_frameLine, a_frameState, a_frameTarget, a_frameAcks, a_frameGranted, a_frameWords, a_memory, a_current, a_homeOwner, a_homeSharers, a_homeNextOwner, a_homeNextSharers, a_homeBusy, a_homeAwaits, a_queueHead, a_queueLength, a_queueType, a_queueCore, a_queueInfo, a_queueWords, a_msgType, a_msgTo, a_msgLine, a_msgCore, a_msgInfo, a_msgAcks, a_msgWords, a_inWords) p0 := by
  have e : (4 : Int32) * nI lc = nI (4 * lc) := by rw [show (4 : Int32) = nI 4 from rfl, pk_mul]
  refine br_c (fun a => h0 fun c hc e => ?_) (fun a => br_c (fun b => h0 fun c hc e' => ?_) fun b => ?_)
  · subst e; exact nI_pos (by omega) a
  · subst e'; rw [e] at b; exact nI_ge hc (by omega) b
  · obtain ⟨j, hj, rfl⟩ := nI_of a
    rw [e, nI_leI (by omega) hj] at b
    exact h1 j (by omega) rfl
theorem dm_w_find_l {post : Int32 → Prop} {c fc : Nat} {x : Int32} (hc : c < 4) (hfc : fc ≤ 4) (h1 : ∀ f, f < fc → a_frameLine (4 * c + f) = x → post (nI (4 * c + f))) (h0 : (∀ f, f < fc → a_frameLine (4 * c + f) ≠ x) → post (-1)) : ∀ j m : Nat, m + j = fc → (∀ f, f < m → a_frameLine (4 * c + f) ≠ x) → wX_findFrame_2 post (nI c) x f_msgGetS f_msgGetM f_msgPut f_msgDone f_msgCopyBack f_msgFwdS f_msgFwdM f_msgInv f_msgAck f_msgData f_msgGrant f_msgPutAck f_stFree f_stS f_stE f_stM f_stIS f_stIM f_stSM f_stSI f_stEI f_stMI f_stII f_coreCount f_lineCount (nI fc) f_msgCount f_inType f_inTo f_inLine f_inCore f_inInfo f_inAcks a_opKind a_opAddress a_opOperand a_opResult a_opPerformed a_acc a_closedCount a_nextVictim a_frameLine a_frameState a_frameTarget a_frameAcks a_frameGranted a_frameWords a_memory a_current a_homeOwner a_homeSharers a_homeNextOwner a_homeNextSharers a_homeBusy a_homeAwaits a_queueHead a_queueLength a_queueType a_queueCore a_queueInfo a_queueWords a_msgType a_msgTo a_msgLine a_msgCore a_msgInfo a_msgAcks a_msgWords a_inWords (j + 1) (nI m) := by
  intro j
  induction j with
  | zero =>
    intro m hm hz
    obtain rfl : m = fc := by omega
    exact br_t (nI_le (Nat.le_refl _) (by omega)) (h0 hz)
  | succ j ih =>
    intro m hm hz
    have e1 := dm_ix c m
    have c1 : (nI c * 4 + nI m).toNatClampNeg = 4 * c + m := by rw [e1, nI_clamp (by omega)]
    refine br_f (nI_ge (by omega) (by omega)) ⟨by rw [e1]; exact vp_in_nI (by omega) (by omega), br_c (fun a => ?_) (fun a => nm_r (nI_1 m) (ih (m + 1) (by omega) fun f hf => ?_))⟩
    · rw [c1] at a; rw [e1]; exact h1 m (by omega) a
    · rw [c1] at a
      by_cases e : f = m
      · subst e; exact a
      · exact hz f (by omega)
theorem dm_w_find {post : Int32 → Prop} {c fc : Nat} {x : Int32} (hc : c < 4) (hfc : fc ≤ 4) (h1 : ∀ f, f < fc → a_frameLine (4 * c + f) = x → post (nI (4 * c + f))) (h0 : (∀ f, f < fc → a_frameLine (4 * c + f) ≠ x) → post (-1)) : wpX_findFrame post (f_msgGetS, f_msgGetM, f_msgPut, f_msgDone, f_msgCopyBack, f_msgFwdS, f_msgFwdM, f_msgInv, f_msgAck, f_msgData, f_msgGrant, f_msgPutAck, f_stFree, f_stS, f_stE, f_stM, f_stIS, f_stIM, f_stSM, f_stSI, f_stEI, f_stMI, f_stII, f_coreCount, f_lineCount, nI fc, f_msgCount, f_inType, f_inTo, f_inLine, f_inCore, f_inInfo, f_inAcks, a_opKind, a_opAddress, a_opOperand, a_opResult, a_opPerformed, a_acc, a_closedCount, a_nextVictim, a_frameLine, a_frameState, a_frameTarget, a_frameAcks, a_frameGranted, a_frameWords, a_memory, a_current, a_homeOwner, a_homeSharers, a_homeNextOwner, a_homeNextSharers, a_homeBusy, a_homeAwaits, a_queueHead, a_queueLength, a_queueType, a_queueCore, a_queueInfo, a_queueWords, a_msgType, a_msgTo, a_msgLine, a_msgCore, a_msgInfo, a_msgAcks, a_msgWords, a_inWords) (nI c) x :=
  ⟨fc + 1, dm_w_find_l hc hfc h1 h0 fc 0 (by omega) (fun f hf => absurd hf (Nat.not_lt_zero f))⟩
theorem dm_w_free {post : Int32 → Prop} {c fc : Nat} (hc : c < 4) (hfc : fc ≤ 4) (h1 : ∀ f, f < fc → a_frameLine (4 * c + f) = -1 → post (nI (4 * c + f))) (h0 : (∀ f, f < fc → a_frameLine (4 * c + f) ≠ -1) → post (-1)) : wpX_freeFrame post (f_msgGetS, f_msgGetM, f_msgPut, f_msgDone, f_msgCopyBack, f_msgFwdS, f_msgFwdM, f_msgInv, f_msgAck, f_msgData, f_msgGrant, f_msgPutAck, f_stFree, f_stS, f_stE, f_stM, f_stIS, f_stIM, f_stSM, f_stSI, f_stEI, f_stMI, f_stII, f_coreCount, f_lineCount, nI fc, f_msgCount, f_inType, f_inTo, f_inLine, f_inCore, f_inInfo, f_inAcks, a_opKind, a_opAddress, a_opOperand, a_opResult, a_opPerformed, a_acc, a_closedCount, a_nextVictim, a_frameLine, a_frameState, a_frameTarget, a_frameAcks, a_frameGranted, a_frameWords, a_memory, a_current, a_homeOwner, a_homeSharers, a_homeNextOwner, a_homeNextSharers, a_homeBusy, a_homeAwaits, a_queueHead, a_queueLength, a_queueType, a_queueCore, a_queueInfo, a_queueWords, a_msgType, a_msgTo, a_msgLine, a_msgCore, a_msgInfo, a_msgAcks, a_msgWords, a_inWords) (nI c) :=
  dm_w_find hc hfc h1 h0
theorem dm_w_take_l {post : SX → Prop} {s t : Nat} (hs : s < 128) (ht : t < 128) (w v : Nat → Int32) (K : post (f_msgGetS, f_msgGetM, f_msgPut, f_msgDone, f_msgCopyBack, f_msgFwdS, f_msgFwdM, f_msgInv, f_msgAck, f_msgData, f_msgGrant, f_msgPutAck, f_stFree, f_stS, f_stE, f_stM, f_stIS, f_stIM, f_stSM, f_stSI, f_stEI, f_stMI, f_stII, f_coreCount, f_lineCount, f_frameCount, nI t, f_inType, f_inTo, f_inLine, f_inCore, f_inInfo, f_inAcks, a_opKind, a_opAddress, a_opOperand, a_opResult, a_opPerformed, a_acc, a_closedCount, a_nextVictim, a_frameLine, a_frameState, a_frameTarget, a_frameAcks, a_frameGranted, a_frameWords, a_memory, a_current, a_homeOwner, a_homeSharers, a_homeNextOwner, a_homeNextSharers, a_homeBusy, a_homeAwaits, a_queueHead, a_queueLength, a_queueType, a_queueCore, a_queueInfo, a_queueWords, upd a_msgType s (a_msgType t), upd a_msgTo s (a_msgTo t), upd a_msgLine s (a_msgLine t), upd a_msgCore s (a_msgCore t), upd a_msgInfo s (a_msgInfo t), upd a_msgAcks s (a_msgAcks t), dm_cp w (4 * s) w (4 * t) 4, dm_cp v 0 w (4 * s) 4)) : ∀ j m : Nat, m + j = 4 → wX_takeFromPool_69 post (nI s) (nI t) f_msgGetS f_msgGetM f_msgPut f_msgDone f_msgCopyBack f_msgFwdS f_msgFwdM f_msgInv f_msgAck f_msgData f_msgGrant f_msgPutAck f_stFree f_stS f_stE f_stM f_stIS f_stIM f_stSM f_stSI f_stEI f_stMI f_stII f_coreCount f_lineCount f_frameCount f_msgCount f_inType f_inTo f_inLine f_inCore f_inInfo f_inAcks (j + 1) (nI m) a_opKind a_opAddress a_opOperand a_opResult a_opPerformed a_acc a_closedCount a_nextVictim a_frameLine a_frameState a_frameTarget a_frameAcks a_frameGranted a_frameWords a_memory a_current a_homeOwner a_homeSharers a_homeNextOwner a_homeNextSharers a_homeBusy a_homeAwaits a_queueHead a_queueLength a_queueType a_queueCore a_queueInfo a_queueWords a_msgType a_msgTo a_msgLine a_msgCore a_msgInfo a_msgAcks (dm_cp w (4 * s) w (4 * t) m) (dm_cp v 0 w (4 * s) m) := by
  have hi : vp_in (nI s) 128 := vp_in_nI hs (by omega)
  have hit : vp_in (nI t) 128 := vp_in_nI ht (by omega)
  have hc : (nI s).toNatClampNeg = s := nI_clamp (by omega)
  have hct : (nI t).toNatClampNeg = t := nI_clamp (by omega)
  have ee : ∀ f : Nat → Int32, upd f (nI s).toNatClampNeg (f (nI t).toNatClampNeg) = upd f s (f t) := fun f => by rw [hc, hct]
  intro j
  induction j with
  | zero =>
    intro m hm
    obtain rfl : m = 4 := by omega
    exact br_t (nI_le (a := 4) (b := 4) (by omega) (by decide)) ⟨hit, hi, nm_r (ee _) ⟨hit, hi, nm_r (ee _) ⟨hit, hi, nm_r (ee _) ⟨hit, hi, nm_r (ee _) ⟨hit, hi, nm_r (ee _) ⟨hit, hi, nm_r (ee _) K⟩⟩⟩⟩⟩⟩
  | succ j ih =>
    intro m hm
    have e1 := dm_ix s m
    have e2 := dm_ix t m
    have c1 : (nI s * 4 + nI m).toNatClampNeg = 4 * s + m := by rw [e1, nI_clamp (by omega)]
    have c2 : (nI t * 4 + nI m).toNatClampNeg = 4 * t + m := by rw [e2, nI_clamp (by omega)]
    have c3 : (nI m).toNatClampNeg = m := nI_clamp (by omega)
    have v1 : vp_in (nI s * 4 + nI m) 512 := by rw [e1]; exact vp_in_nI (by omega) (by omega)
    have v2 : vp_in (nI t * 4 + nI m) 512 := by rw [e2]; exact vp_in_nI (by omega) (by omega)
    refine br_f (nI_ge (b := 4) (by omega) (by decide)) ⟨v1, vp_in_nI (by omega) (by omega), nm_r (e' := dm_cp v 0 w (4 * s) (m + 1)) ?_ ⟨v2, v1, nm_r (e' := dm_cp w (4 * s) w (4 * t) (m + 1)) ?_ (nm_r (nI_1 m) (ih (m + 1) (by omega)))⟩⟩
    · rw [c1, c3, dm_cpo (by omega), ← dm_cpS, Nat.zero_add]
    · rw [c1, c2, ← dm_cpS]
      congr 1
      by_cases h : s = t
      · subst h; exact dm_cpo (by omega)
      · exact dm_cpo (by omega)
theorem dm_w_take {post : SX → Prop} {s t : Nat} (hs : s ≤ t) (ht : t < 128) (K : post (f_msgGetS, f_msgGetM, f_msgPut, f_msgDone, f_msgCopyBack, f_msgFwdS, f_msgFwdM, f_msgInv, f_msgAck, f_msgData, f_msgGrant, f_msgPutAck, f_stFree, f_stS, f_stE, f_stM, f_stIS, f_stIM, f_stSM, f_stSI, f_stEI, f_stMI, f_stII, f_coreCount, f_lineCount, f_frameCount, nI t, a_msgType s, a_msgTo s, a_msgLine s, a_msgCore s, a_msgInfo s, a_msgAcks s, a_opKind, a_opAddress, a_opOperand, a_opResult, a_opPerformed, a_acc, a_closedCount, a_nextVictim, a_frameLine, a_frameState, a_frameTarget, a_frameAcks, a_frameGranted, a_frameWords, a_memory, a_current, a_homeOwner, a_homeSharers, a_homeNextOwner, a_homeNextSharers, a_homeBusy, a_homeAwaits, a_queueHead, a_queueLength, a_queueType, a_queueCore, a_queueInfo, a_queueWords, upd a_msgType s (a_msgType t), upd a_msgTo s (a_msgTo t), upd a_msgLine s (a_msgLine t), upd a_msgCore s (a_msgCore t), upd a_msgInfo s (a_msgInfo t), upd a_msgAcks s (a_msgAcks t), dm_cp a_msgWords (4 * s) a_msgWords (4 * t) 4, dm_cp a_inWords 0 a_msgWords (4 * s) 4)) : wpX_takeFromPool post (f_msgGetS, f_msgGetM, f_msgPut, f_msgDone, f_msgCopyBack, f_msgFwdS, f_msgFwdM, f_msgInv, f_msgAck, f_msgData, f_msgGrant, f_msgPutAck, f_stFree, f_stS, f_stE, f_stM, f_stIS, f_stIM, f_stSM, f_stSI, f_stEI, f_stMI, f_stII, f_coreCount, f_lineCount, f_frameCount, nI (t + 1), f_inType, f_inTo, f_inLine, f_inCore, f_inInfo, f_inAcks, a_opKind, a_opAddress, a_opOperand, a_opResult, a_opPerformed, a_acc, a_closedCount, a_nextVictim, a_frameLine, a_frameState, a_frameTarget, a_frameAcks, a_frameGranted, a_frameWords, a_memory, a_current, a_homeOwner, a_homeSharers, a_homeNextOwner, a_homeNextSharers, a_homeBusy, a_homeAwaits, a_queueHead, a_queueLength, a_queueType, a_queueCore, a_queueInfo, a_queueWords, a_msgType, a_msgTo, a_msgLine, a_msgCore, a_msgInfo, a_msgAcks, a_msgWords, a_inWords) (nI s) := by
  have hi : vp_in (nI s) 128 := vp_in_nI (by omega) (by omega)
  have hc : (nI s).toNatClampNeg = s := nI_clamp (by omega)
  have hr : ∀ f : Nat → Int32, f (nI s).toNatClampNeg = f s := fun f => by rw [hc]
  have h := dm_w_take_l (f_msgCount := nI (t + 1)) (by omega) ht a_msgWords a_inWords K 4 0 (by omega)
  rw [dm_cp0, dm_cp0] at h
  exact ⟨hi, nm_r (hr _) ⟨hi, nm_r (hr _) ⟨hi, nm_r (hr _) ⟨hi, nm_r (hr _) ⟨hi, nm_r (hr _) ⟨hi, nm_r (hr _) (nm_r (nI_pred t) ⟨5, h⟩)⟩⟩⟩⟩⟩⟩
theorem dm_w_wmem_l {post : SX → Prop} {s : Nat} (hs : s < 8) (w : Nat → Int32) (K : post (f_msgGetS, f_msgGetM, f_msgPut, f_msgDone, f_msgCopyBack, f_msgFwdS, f_msgFwdM, f_msgInv, f_msgAck, f_msgData, f_msgGrant, f_msgPutAck, f_stFree, f_stS, f_stE, f_stM, f_stIS, f_stIM, f_stSM, f_stSI, f_stEI, f_stMI, f_stII, f_coreCount, f_lineCount, f_frameCount, f_msgCount, f_inType, f_inTo, f_inLine, f_inCore, f_inInfo, f_inAcks, a_opKind, a_opAddress, a_opOperand, a_opResult, a_opPerformed, a_acc, a_closedCount, a_nextVictim, a_frameLine, a_frameState, a_frameTarget, a_frameAcks, a_frameGranted, a_frameWords, dm_cp w (4 * s) a_inWords 0 4, a_current, a_homeOwner, a_homeSharers, a_homeNextOwner, a_homeNextSharers, a_homeBusy, a_homeAwaits, a_queueHead, a_queueLength, a_queueType, a_queueCore, a_queueInfo, a_queueWords, a_msgType, a_msgTo, a_msgLine, a_msgCore, a_msgInfo, a_msgAcks, a_msgWords, a_inWords)) : ∀ j m : Nat, m + j = 4 → wX_writeMemory_2 post (nI s) f_msgGetS f_msgGetM f_msgPut f_msgDone f_msgCopyBack f_msgFwdS f_msgFwdM f_msgInv f_msgAck f_msgData f_msgGrant f_msgPutAck f_stFree f_stS f_stE f_stM f_stIS f_stIM f_stSM f_stSI f_stEI f_stMI f_stII f_coreCount f_lineCount f_frameCount f_msgCount f_inType f_inTo f_inLine f_inCore f_inInfo f_inAcks (j + 1) (nI m) a_opKind a_opAddress a_opOperand a_opResult a_opPerformed a_acc a_closedCount a_nextVictim a_frameLine a_frameState a_frameTarget a_frameAcks a_frameGranted a_frameWords (dm_cp w (4 * s) a_inWords 0 m) a_current a_homeOwner a_homeSharers a_homeNextOwner a_homeNextSharers a_homeBusy a_homeAwaits a_queueHead a_queueLength a_queueType a_queueCore a_queueInfo a_queueWords a_msgType a_msgTo a_msgLine a_msgCore a_msgInfo a_msgAcks a_msgWords a_inWords := by
  intro j
  induction j with
  | zero =>
    intro m hm
    obtain rfl : m = 4 := by omega
    exact br_t (nI_le (a := 4) (b := 4) (by omega) (by decide)) K
  | succ j ih =>
    intro m hm
    have e1 := dm_ix s m
    have c1 : (nI s * 4 + nI m).toNatClampNeg = 4 * s + m := by rw [e1, nI_clamp (by omega)]
    have c3 : (nI m).toNatClampNeg = m := nI_clamp (by omega)
    refine br_f (nI_ge (b := 4) (by omega) (by decide)) ⟨vp_in_nI (by omega) (by omega), by rw [e1]; exact vp_in_nI (by omega) (by omega), nm_r (e' := dm_cp w (4 * s) a_inWords 0 (m + 1)) ?_ (nm_r (nI_1 m) (ih (m + 1) (by omega)))⟩
    rw [c1, c3, ← dm_cpS, Nat.zero_add]
theorem dm_w_wmem {post : SX → Prop} {s : Nat} (hs : s < 8) (K : post (f_msgGetS, f_msgGetM, f_msgPut, f_msgDone, f_msgCopyBack, f_msgFwdS, f_msgFwdM, f_msgInv, f_msgAck, f_msgData, f_msgGrant, f_msgPutAck, f_stFree, f_stS, f_stE, f_stM, f_stIS, f_stIM, f_stSM, f_stSI, f_stEI, f_stMI, f_stII, f_coreCount, f_lineCount, f_frameCount, f_msgCount, f_inType, f_inTo, f_inLine, f_inCore, f_inInfo, f_inAcks, a_opKind, a_opAddress, a_opOperand, a_opResult, a_opPerformed, a_acc, a_closedCount, a_nextVictim, a_frameLine, a_frameState, a_frameTarget, a_frameAcks, a_frameGranted, a_frameWords, dm_cp a_memory (4 * s) a_inWords 0 4, a_current, a_homeOwner, a_homeSharers, a_homeNextOwner, a_homeNextSharers, a_homeBusy, a_homeAwaits, a_queueHead, a_queueLength, a_queueType, a_queueCore, a_queueInfo, a_queueWords, a_msgType, a_msgTo, a_msgLine, a_msgCore, a_msgInfo, a_msgAcks, a_msgWords, a_inWords)) : wpX_writeMemory post (f_msgGetS, f_msgGetM, f_msgPut, f_msgDone, f_msgCopyBack, f_msgFwdS, f_msgFwdM, f_msgInv, f_msgAck, f_msgData, f_msgGrant, f_msgPutAck, f_stFree, f_stS, f_stE, f_stM, f_stIS, f_stIM, f_stSM, f_stSI, f_stEI, f_stMI, f_stII, f_coreCount, f_lineCount, f_frameCount, f_msgCount, f_inType, f_inTo, f_inLine, f_inCore, f_inInfo, f_inAcks, a_opKind, a_opAddress, a_opOperand, a_opResult, a_opPerformed, a_acc, a_closedCount, a_nextVictim, a_frameLine, a_frameState, a_frameTarget, a_frameAcks, a_frameGranted, a_frameWords, a_memory, a_current, a_homeOwner, a_homeSharers, a_homeNextOwner, a_homeNextSharers, a_homeBusy, a_homeAwaits, a_queueHead, a_queueLength, a_queueType, a_queueCore, a_queueInfo, a_queueWords, a_msgType, a_msgTo, a_msgLine, a_msgCore, a_msgInfo, a_msgAcks, a_msgWords, a_inWords) (nI s) := by
  have h := dm_w_wmem_l hs a_memory K 4 0 (by omega)
  rw [dm_cp0] at h
  exact ⟨5, h⟩
theorem dm_w_close {post : SX → Prop} {s : Nat} (hs : s < 8) (K : post (f_msgGetS, f_msgGetM, f_msgPut, f_msgDone, f_msgCopyBack, f_msgFwdS, f_msgFwdM, f_msgInv, f_msgAck, f_msgData, f_msgGrant, f_msgPutAck, f_stFree, f_stS, f_stE, f_stM, f_stIS, f_stIM, f_stSM, f_stSI, f_stEI, f_stMI, f_stII, f_coreCount, f_lineCount, f_frameCount, f_msgCount, f_inType, f_inTo, f_inLine, f_inCore, f_inInfo, f_inAcks, a_opKind, a_opAddress, a_opOperand, a_opResult, a_opPerformed, a_acc, a_closedCount, a_nextVictim, a_frameLine, a_frameState, a_frameTarget, a_frameAcks, a_frameGranted, a_frameWords, a_memory, a_current, upd a_homeOwner s (a_homeNextOwner s), upd a_homeSharers s (a_homeNextSharers s), a_homeNextOwner, a_homeNextSharers, upd a_homeBusy s 0, upd a_homeAwaits s 0, a_queueHead, a_queueLength, a_queueType, a_queueCore, a_queueInfo, a_queueWords, a_msgType, a_msgTo, a_msgLine, a_msgCore, a_msgInfo, a_msgAcks, a_msgWords, a_inWords)) : wpX_closeTransaction post (f_msgGetS, f_msgGetM, f_msgPut, f_msgDone, f_msgCopyBack, f_msgFwdS, f_msgFwdM, f_msgInv, f_msgAck, f_msgData, f_msgGrant, f_msgPutAck, f_stFree, f_stS, f_stE, f_stM, f_stIS, f_stIM, f_stSM, f_stSI, f_stEI, f_stMI, f_stII, f_coreCount, f_lineCount, f_frameCount, f_msgCount, f_inType, f_inTo, f_inLine, f_inCore, f_inInfo, f_inAcks, a_opKind, a_opAddress, a_opOperand, a_opResult, a_opPerformed, a_acc, a_closedCount, a_nextVictim, a_frameLine, a_frameState, a_frameTarget, a_frameAcks, a_frameGranted, a_frameWords, a_memory, a_current, a_homeOwner, a_homeSharers, a_homeNextOwner, a_homeNextSharers, a_homeBusy, a_homeAwaits, a_queueHead, a_queueLength, a_queueType, a_queueCore, a_queueInfo, a_queueWords, a_msgType, a_msgTo, a_msgLine, a_msgCore, a_msgInfo, a_msgAcks, a_msgWords, a_inWords) (nI s) := by
  have hi : vp_in (nI s) 8 := vp_in_nI (by omega) (by omega)
  have hc : (nI s).toNatClampNeg = s := nI_clamp (by omega)
  exact ⟨hi, hi, nm_r (by rw [hc]) ⟨hi, hi, nm_r (by rw [hc]) ⟨hi, nm_r (dm_ub0 hc) ⟨hi, nm_r (dm_ue hc) K⟩⟩⟩⟩
end
end
section
section
variable {f_msgGetS f_msgGetM f_msgPut f_msgDone f_msgCopyBack f_msgFwdS f_msgFwdM f_msgInv f_msgAck f_msgData f_msgGrant f_msgPutAck f_stFree f_stS f_stE f_stM f_stIS f_stIM f_stSM f_stSI f_stEI f_stMI f_stII f_coreCount f_lineCount f_frameCount f_msgCount f_inType f_inTo f_inLine f_inCore f_inInfo f_inAcks : Int32} {a_opKind a_opAddress a_opOperand a_opResult a_opPerformed a_acc a_closedCount a_nextVictim a_frameLine a_frameState a_frameTarget a_frameAcks a_frameGranted a_frameWords a_memory a_current a_homeOwner a_homeSharers a_homeNextOwner a_homeNextSharers a_homeBusy a_homeAwaits a_queueHead a_queueLength a_queueType a_queueCore a_queueInfo a_queueWords a_msgType a_msgTo a_msgLine a_msgCore a_msgInfo a_msgAcks a_msgWords a_inWords : Nat → Int32}
theorem dm_w_deq_l {post : SX → Prop} {q : Nat} (hq : q < 32) (w : Nat → Int32) (K : post (f_msgGetS, f_msgGetM, f_msgPut, f_msgDone, f_msgCopyBack, f_msgFwdS, f_msgFwdM, f_msgInv, f_msgAck, f_msgData, f_msgGrant, f_msgPutAck, f_stFree, f_stS, f_stE, f_stM, f_stIS, f_stIM, f_stSM, f_stSI, f_stEI, f_stMI, f_stII, f_coreCount, f_lineCount, f_frameCount, f_msgCount, f_inType, f_inTo, f_inLine, f_inCore, f_inInfo, f_inAcks, a_opKind, a_opAddress, a_opOperand, a_opResult, a_opPerformed, a_acc, a_closedCount, a_nextVictim, a_frameLine, a_frameState, a_frameTarget, a_frameAcks, a_frameGranted, a_frameWords, a_memory, a_current, a_homeOwner, a_homeSharers, a_homeNextOwner, a_homeNextSharers, a_homeBusy, a_homeAwaits, a_queueHead, a_queueLength, a_queueType, a_queueCore, a_queueInfo, a_queueWords, a_msgType, a_msgTo, a_msgLine, a_msgCore, a_msgInfo, a_msgAcks, a_msgWords, dm_cp w 0 a_queueWords (4 * q) 4)) : ∀ j m : Nat, m + j = 4 → wX_dequeue_69 post (nI q) f_msgGetS f_msgGetM f_msgPut f_msgDone f_msgCopyBack f_msgFwdS f_msgFwdM f_msgInv f_msgAck f_msgData f_msgGrant f_msgPutAck f_stFree f_stS f_stE f_stM f_stIS f_stIM f_stSM f_stSI f_stEI f_stMI f_stII f_coreCount f_lineCount f_frameCount f_msgCount f_inType f_inTo f_inLine f_inCore f_inInfo f_inAcks (j + 1) (nI m) a_opKind a_opAddress a_opOperand a_opResult a_opPerformed a_acc a_closedCount a_nextVictim a_frameLine a_frameState a_frameTarget a_frameAcks a_frameGranted a_frameWords a_memory a_current a_homeOwner a_homeSharers a_homeNextOwner a_homeNextSharers a_homeBusy a_homeAwaits a_queueHead a_queueLength a_queueType a_queueCore a_queueInfo a_queueWords a_msgType a_msgTo a_msgLine a_msgCore a_msgInfo a_msgAcks a_msgWords (dm_cp w 0 a_queueWords (4 * q) m) := by
  intro j
  induction j with
  | zero =>
    intro m hm
    obtain rfl : m = 4 := by omega
    exact br_t (nI_le (a := 4) (b := 4) (by omega) (by decide)) K
  | succ j ih =>
    intro m hm
    have e1 := dm_ix q m
    have c1 : (nI q * 4 + nI m).toNatClampNeg = 4 * q + m := by rw [e1, nI_clamp (by omega)]
    have c3 : (nI m).toNatClampNeg = m := nI_clamp (by omega)
    refine br_f (nI_ge (b := 4) (by omega) (by decide)) ⟨by rw [e1]; exact vp_in_nI (by omega) (by omega), vp_in_nI (by omega) (by omega), nm_r (e' := dm_cp w 0 a_queueWords (4 * q) (m + 1)) ?_ (nm_r (nI_1 m) (ih (m + 1) (by omega)))⟩
    rw [c1, c3, ← dm_cpS, Nat.zero_add]
theorem dm_w_deq {post : SX → Prop} {l h len : Nat} (hl : l < 8) (hh : h < 4) (eh : a_queueHead l = nI h) (el : a_queueLength l = nI (len + 1)) (K : post (f_msgGetS, f_msgGetM, f_msgPut, f_msgDone, f_msgCopyBack, f_msgFwdS, f_msgFwdM, f_msgInv, f_msgAck, f_msgData, f_msgGrant, f_msgPutAck, f_stFree, f_stS, f_stE, f_stM, f_stIS, f_stIM, f_stSM, f_stSI, f_stEI, f_stMI, f_stII, f_coreCount, f_lineCount, f_frameCount, f_msgCount, a_queueType (4 * l + h), f_inTo, f_inLine, a_queueCore (4 * l + h), a_queueInfo (4 * l + h), f_inAcks, a_opKind, a_opAddress, a_opOperand, a_opResult, a_opPerformed, a_acc, a_closedCount, a_nextVictim, a_frameLine, a_frameState, a_frameTarget, a_frameAcks, a_frameGranted, a_frameWords, a_memory, a_current, a_homeOwner, a_homeSharers, a_homeNextOwner, a_homeNextSharers, a_homeBusy, a_homeAwaits, upd a_queueHead l (nI ((h + 1) % 4)), upd a_queueLength l (nI len), a_queueType, a_queueCore, a_queueInfo, a_queueWords, a_msgType, a_msgTo, a_msgLine, a_msgCore, a_msgInfo, a_msgAcks, a_msgWords, dm_cp a_inWords 0 a_queueWords (4 * (4 * l + h)) 4)) : wpX_dequeue post (f_msgGetS, f_msgGetM, f_msgPut, f_msgDone, f_msgCopyBack, f_msgFwdS, f_msgFwdM, f_msgInv, f_msgAck, f_msgData, f_msgGrant, f_msgPutAck, f_stFree, f_stS, f_stE, f_stM, f_stIS, f_stIM, f_stSM, f_stSI, f_stEI, f_stMI, f_stII, f_coreCount, f_lineCount, f_frameCount, f_msgCount, f_inType, f_inTo, f_inLine, f_inCore, f_inInfo, f_inAcks, a_opKind, a_opAddress, a_opOperand, a_opResult, a_opPerformed, a_acc, a_closedCount, a_nextVictim, a_frameLine, a_frameState, a_frameTarget, a_frameAcks, a_frameGranted, a_frameWords, a_memory, a_current, a_homeOwner, a_homeSharers, a_homeNextOwner, a_homeNextSharers, a_homeBusy, a_homeAwaits, a_queueHead, a_queueLength, a_queueType, a_queueCore, a_queueInfo, a_queueWords, a_msgType, a_msgTo, a_msgLine, a_msgCore, a_msgInfo, a_msgAcks, a_msgWords, a_inWords) (nI l) := by
  have hi : vp_in (nI l) 8 := vp_in_nI (by omega) (by omega)
  have hc : (nI l).toNatClampNeg = l := nI_clamp (by omega)
  have e1 : nI l * 4 + a_queueHead (nI l).toNatClampNeg = nI (4 * l + h) := by rw [hc, eh]; exact dm_ix l h
  have hq : vp_in (nI (4 * l + h)) 32 := vp_in_nI (by omega) (by omega)
  have hcq : (nI (4 * l + h)).toNatClampNeg = 4 * l + h := nI_clamp (by omega)
  have hr : ∀ f : Nat → Int32, f (nI (4 * l + h)).toNatClampNeg = f (4 * l + h) := fun f => by rw [hcq]
  have hh2 : upd a_queueHead (nI l).toNatClampNeg ((a_queueHead (nI l).toNatClampNeg + 1) &&& 3) = upd a_queueHead l (nI ((h + 1) % 4)) := by
    rw [hc, eh, nI_1, pk_andN (n := h + 1) (by omega) (m := 3) 2 (by decide)]
  have hl2 : upd a_queueLength (nI l).toNatClampNeg (a_queueLength (nI l).toNatClampNeg - 1) = upd a_queueLength l (nI len) := by
    rw [hc, el, nI_pred]
  have hw := dm_w_deq_l (q := 4 * l + h) (by omega) a_inWords K 4 0 (by omega)
  rw [dm_cp0] at hw
  exact ⟨hi, nm_r e1 ⟨hi, hi, nm_r hh2 ⟨hi, hi, nm_r hl2 ⟨hq, nm_r (hr _) ⟨hq, nm_r (hr _) ⟨hq, nm_r (hr _) ⟨5, hw⟩⟩⟩⟩⟩⟩⟩
theorem dm_w_enq_l {post : SX → Prop} {q : Nat} (hq : q < 32) (w : Nat → Int32) (K : post (f_msgGetS, f_msgGetM, f_msgPut, f_msgDone, f_msgCopyBack, f_msgFwdS, f_msgFwdM, f_msgInv, f_msgAck, f_msgData, f_msgGrant, f_msgPutAck, f_stFree, f_stS, f_stE, f_stM, f_stIS, f_stIM, f_stSM, f_stSI, f_stEI, f_stMI, f_stII, f_coreCount, f_lineCount, f_frameCount, f_msgCount, f_inType, f_inTo, f_inLine, f_inCore, f_inInfo, f_inAcks, a_opKind, a_opAddress, a_opOperand, a_opResult, a_opPerformed, a_acc, a_closedCount, a_nextVictim, a_frameLine, a_frameState, a_frameTarget, a_frameAcks, a_frameGranted, a_frameWords, a_memory, a_current, a_homeOwner, a_homeSharers, a_homeNextOwner, a_homeNextSharers, a_homeBusy, a_homeAwaits, a_queueHead, a_queueLength, a_queueType, a_queueCore, a_queueInfo, dm_cp w (4 * q) a_inWords 0 4, a_msgType, a_msgTo, a_msgLine, a_msgCore, a_msgInfo, a_msgAcks, a_msgWords, a_inWords)) : ∀ j m : Nat, m + j = 4 → wX_enqueue_73 post (nI q) f_msgGetS f_msgGetM f_msgPut f_msgDone f_msgCopyBack f_msgFwdS f_msgFwdM f_msgInv f_msgAck f_msgData f_msgGrant f_msgPutAck f_stFree f_stS f_stE f_stM f_stIS f_stIM f_stSM f_stSI f_stEI f_stMI f_stII f_coreCount f_lineCount f_frameCount f_msgCount f_inType f_inTo f_inLine f_inCore f_inInfo f_inAcks (j + 1) (nI m) a_opKind a_opAddress a_opOperand a_opResult a_opPerformed a_acc a_closedCount a_nextVictim a_frameLine a_frameState a_frameTarget a_frameAcks a_frameGranted a_frameWords a_memory a_current a_homeOwner a_homeSharers a_homeNextOwner a_homeNextSharers a_homeBusy a_homeAwaits a_queueHead a_queueLength a_queueType a_queueCore a_queueInfo (dm_cp w (4 * q) a_inWords 0 m) a_msgType a_msgTo a_msgLine a_msgCore a_msgInfo a_msgAcks a_msgWords a_inWords := by
  intro j
  induction j with
  | zero =>
    intro m hm
    obtain rfl : m = 4 := by omega
    exact br_t (nI_le (a := 4) (b := 4) (by omega) (by decide)) K
  | succ j ih =>
    intro m hm
    have e1 := dm_ix q m
    have c1 : (nI q * 4 + nI m).toNatClampNeg = 4 * q + m := by rw [e1, nI_clamp (by omega)]
    have c3 : (nI m).toNatClampNeg = m := nI_clamp (by omega)
    refine br_f (nI_ge (b := 4) (by omega) (by decide)) ⟨vp_in_nI (by omega) (by omega), by rw [e1]; exact vp_in_nI (by omega) (by omega), nm_r (e' := dm_cp w (4 * q) a_inWords 0 (m + 1)) ?_ (nm_r (nI_1 m) (ih (m + 1) (by omega)))⟩
    rw [c1, c3, ← dm_cpS, Nat.zero_add]
theorem dm_w_enq {post : SX → Prop} {l h len q : Nat} (hl : l < 8) (hh : h < 4) (hlen : len < 4) (eq : q = 4 * l + (h + len) % 4) (eh : a_queueHead l = nI h) (el : a_queueLength l = nI len) (K : post (f_msgGetS, f_msgGetM, f_msgPut, f_msgDone, f_msgCopyBack, f_msgFwdS, f_msgFwdM, f_msgInv, f_msgAck, f_msgData, f_msgGrant, f_msgPutAck, f_stFree, f_stS, f_stE, f_stM, f_stIS, f_stIM, f_stSM, f_stSI, f_stEI, f_stMI, f_stII, f_coreCount, f_lineCount, f_frameCount, f_msgCount, f_inType, f_inTo, f_inLine, f_inCore, f_inInfo, f_inAcks, a_opKind, a_opAddress, a_opOperand, a_opResult, a_opPerformed, a_acc, a_closedCount, a_nextVictim, a_frameLine, a_frameState, a_frameTarget, a_frameAcks, a_frameGranted, a_frameWords, a_memory, a_current, a_homeOwner, a_homeSharers, a_homeNextOwner, a_homeNextSharers, a_homeBusy, a_homeAwaits, a_queueHead, upd a_queueLength l (nI (len + 1)), upd a_queueType q f_inType, upd a_queueCore q f_inCore, upd a_queueInfo q f_inInfo, dm_cp a_queueWords (4 * q) a_inWords 0 4, a_msgType, a_msgTo, a_msgLine, a_msgCore, a_msgInfo, a_msgAcks, a_msgWords, a_inWords)) : wpX_enqueue post (f_msgGetS, f_msgGetM, f_msgPut, f_msgDone, f_msgCopyBack, f_msgFwdS, f_msgFwdM, f_msgInv, f_msgAck, f_msgData, f_msgGrant, f_msgPutAck, f_stFree, f_stS, f_stE, f_stM, f_stIS, f_stIM, f_stSM, f_stSI, f_stEI, f_stMI, f_stII, f_coreCount, f_lineCount, f_frameCount, f_msgCount, f_inType, f_inTo, f_inLine, f_inCore, f_inInfo, f_inAcks, a_opKind, a_opAddress, a_opOperand, a_opResult, a_opPerformed, a_acc, a_closedCount, a_nextVictim, a_frameLine, a_frameState, a_frameTarget, a_frameAcks, a_frameGranted, a_frameWords, a_memory, a_current, a_homeOwner, a_homeSharers, a_homeNextOwner, a_homeNextSharers, a_homeBusy, a_homeAwaits, a_queueHead, a_queueLength, a_queueType, a_queueCore, a_queueInfo, a_queueWords, a_msgType, a_msgTo, a_msgLine, a_msgCore, a_msgInfo, a_msgAcks, a_msgWords, a_inWords) (nI l) := by
  have hi : vp_in (nI l) 8 := vp_in_nI (by omega) (by omega)
  have hc : (nI l).toNatClampNeg = l := nI_clamp (by omega)
  have e1 : nI l * 4 + ((a_queueHead (nI l).toNatClampNeg + a_queueLength (nI l).toNatClampNeg) &&& 3) = nI q := by
    rw [hc, eh, el, nI_add, pk_andN (n := h + len) (by omega) (m := 3) 2 (by decide), eq]; exact dm_ix l _
  have hq : vp_in (nI q) 32 := vp_in_nI (by omega) (by omega)
  have hcq : (nI q).toNatClampNeg = q := nI_clamp (by omega)
  have hl2 : upd a_queueLength (nI l).toNatClampNeg (a_queueLength (nI l).toNatClampNeg + 1) = upd a_queueLength l (nI (len + 1)) := by
    rw [hc, el, nI_1]
  have hw := dm_w_enq_l (q := q) (by omega) a_queueWords K 4 0 (by omega)
  rw [dm_cp0] at hw
  have hlt : a_queueLength (nI l).toNatClampNeg < 4 := by rw [hc, el]; exact nI_lt (b := 4) hlen (by decide)
  exact ⟨hi, br_t hlt ⟨hi, hi, nm_r e1 ⟨hi, hi, nm_r hl2 ⟨hq, nm_r (dm_ue hcq) ⟨hq, nm_r (dm_ue hcq) ⟨hq, nm_r (dm_ue hcq) ⟨5, hw⟩⟩⟩⟩⟩⟩⟩
theorem dm_w_tg38 {post : SX → Prop} {k : Nat} (hk : k < 16) (K : post (f_msgGetS, f_msgGetM, f_msgPut, f_msgDone, f_msgCopyBack, f_msgFwdS, f_msgFwdM, f_msgInv, f_msgAck, f_msgData, f_msgGrant, f_msgPutAck, f_stFree, f_stS, f_stE, f_stM, f_stIS, f_stIM, f_stSM, f_stSI, f_stEI, f_stMI, f_stII, f_coreCount, f_lineCount, f_frameCount, f_msgCount, f_inType, f_inTo, f_inLine, f_inCore, f_inInfo, f_inAcks, a_opKind, a_opAddress, a_opOperand, a_opResult, a_opPerformed, a_acc, a_closedCount, a_nextVictim, a_frameLine, a_frameState, upd a_frameTarget k f_inInfo, upd a_frameAcks k (a_frameAcks k + f_inAcks), upd a_frameGranted k 1, a_frameWords, a_memory, a_current, a_homeOwner, a_homeSharers, a_homeNextOwner, a_homeNextSharers, a_homeBusy, a_homeAwaits, a_queueHead, a_queueLength, a_queueType, a_queueCore, a_queueInfo, a_queueWords, a_msgType, a_msgTo, a_msgLine, a_msgCore, a_msgInfo, a_msgAcks, a_msgWords, a_inWords)) : wX_takeGrant_38 post (nI k) f_msgGetS f_msgGetM f_msgPut f_msgDone f_msgCopyBack f_msgFwdS f_msgFwdM f_msgInv f_msgAck f_msgData f_msgGrant f_msgPutAck f_stFree f_stS f_stE f_stM f_stIS f_stIM f_stSM f_stSI f_stEI f_stMI f_stII f_coreCount f_lineCount f_frameCount f_msgCount f_inType f_inTo f_inLine f_inCore f_inInfo f_inAcks a_opKind a_opAddress a_opOperand a_opResult a_opPerformed a_acc a_closedCount a_nextVictim a_frameLine a_frameState a_frameTarget a_frameAcks a_frameGranted a_frameWords a_memory a_current a_homeOwner a_homeSharers a_homeNextOwner a_homeNextSharers a_homeBusy a_homeAwaits a_queueHead a_queueLength a_queueType a_queueCore a_queueInfo a_queueWords a_msgType a_msgTo a_msgLine a_msgCore a_msgInfo a_msgAcks a_msgWords a_inWords := by
  have hi : vp_in (nI k) 16 := vp_in_nI (by omega) (by omega)
  have hc : (nI k).toNatClampNeg = k := nI_clamp (by omega)
  exact ⟨hi, nm_r (dm_ue hc) ⟨hi, hi, nm_r (by rw [hc]) ⟨hi, nm_r (dm_ub1 hc) K⟩⟩⟩
theorem dm_w_tg_l {post : SX → Prop} {q : Nat} (hq : q < 16) (w : Nat → Int32) (K : post (f_msgGetS, f_msgGetM, f_msgPut, f_msgDone, f_msgCopyBack, f_msgFwdS, f_msgFwdM, f_msgInv, f_msgAck, f_msgData, f_msgGrant, f_msgPutAck, f_stFree, f_stS, f_stE, f_stM, f_stIS, f_stIM, f_stSM, f_stSI, f_stEI, f_stMI, f_stII, f_coreCount, f_lineCount, f_frameCount, f_msgCount, f_inType, f_inTo, f_inLine, f_inCore, f_inInfo, f_inAcks, a_opKind, a_opAddress, a_opOperand, a_opResult, a_opPerformed, a_acc, a_closedCount, a_nextVictim, a_frameLine, a_frameState, upd a_frameTarget q f_inInfo, upd a_frameAcks q (a_frameAcks q + f_inAcks), upd a_frameGranted q 1, dm_cp w (4 * q) a_inWords 0 4, a_memory, a_current, a_homeOwner, a_homeSharers, a_homeNextOwner, a_homeNextSharers, a_homeBusy, a_homeAwaits, a_queueHead, a_queueLength, a_queueType, a_queueCore, a_queueInfo, a_queueWords, a_msgType, a_msgTo, a_msgLine, a_msgCore, a_msgInfo, a_msgAcks, a_msgWords, a_inWords)) : ∀ j m : Nat, m + j = 4 → wX_takeGrant_11 post (nI q) f_msgGetS f_msgGetM f_msgPut f_msgDone f_msgCopyBack f_msgFwdS f_msgFwdM f_msgInv f_msgAck f_msgData f_msgGrant f_msgPutAck f_stFree f_stS f_stE f_stM f_stIS f_stIM f_stSM f_stSI f_stEI f_stMI f_stII f_coreCount f_lineCount f_frameCount f_msgCount f_inType f_inTo f_inLine f_inCore f_inInfo f_inAcks (j + 1) (nI m) a_opKind a_opAddress a_opOperand a_opResult a_opPerformed a_acc a_closedCount a_nextVictim a_frameLine a_frameState a_frameTarget a_frameAcks a_frameGranted (dm_cp w (4 * q) a_inWords 0 m) a_memory a_current a_homeOwner a_homeSharers a_homeNextOwner a_homeNextSharers a_homeBusy a_homeAwaits a_queueHead a_queueLength a_queueType a_queueCore a_queueInfo a_queueWords a_msgType a_msgTo a_msgLine a_msgCore a_msgInfo a_msgAcks a_msgWords a_inWords := by
  intro j
  induction j with
  | zero =>
    intro m hm
    obtain rfl : m = 4 := by omega
    exact br_t (nI_le (a := 4) (b := 4) (by omega) (by decide)) (dm_w_tg38 hq K)
  | succ j ih =>
    intro m hm
    have e1 := dm_ix q m
    have c1 : (nI q * 4 + nI m).toNatClampNeg = 4 * q + m := by rw [e1, nI_clamp (by omega)]
    have c3 : (nI m).toNatClampNeg = m := nI_clamp (by omega)
    refine br_f (nI_ge (b := 4) (by omega) (by decide)) ⟨vp_in_nI (by omega) (by omega), by rw [e1]; exact vp_in_nI (by omega) (by omega), nm_r (e' := dm_cp w (4 * q) a_inWords 0 (m + 1)) ?_ (nm_r (nI_1 m) (ih (m + 1) (by omega)))⟩
    rw [c1, c3, ← dm_cpS, Nat.zero_add]
theorem dm_w_tgD {post : SX → Prop} {q : Nat} (hq : q < 16) (ht : f_inType = 9) (K : post (f_msgGetS, f_msgGetM, f_msgPut, f_msgDone, f_msgCopyBack, f_msgFwdS, f_msgFwdM, f_msgInv, f_msgAck, f_msgData, f_msgGrant, f_msgPutAck, f_stFree, f_stS, f_stE, f_stM, f_stIS, f_stIM, f_stSM, f_stSI, f_stEI, f_stMI, f_stII, f_coreCount, f_lineCount, f_frameCount, f_msgCount, f_inType, f_inTo, f_inLine, f_inCore, f_inInfo, f_inAcks, a_opKind, a_opAddress, a_opOperand, a_opResult, a_opPerformed, a_acc, a_closedCount, a_nextVictim, a_frameLine, a_frameState, upd a_frameTarget q f_inInfo, upd a_frameAcks q (a_frameAcks q + f_inAcks), upd a_frameGranted q 1, dm_cp a_frameWords (4 * q) a_inWords 0 4, a_memory, a_current, a_homeOwner, a_homeSharers, a_homeNextOwner, a_homeNextSharers, a_homeBusy, a_homeAwaits, a_queueHead, a_queueLength, a_queueType, a_queueCore, a_queueInfo, a_queueWords, a_msgType, a_msgTo, a_msgLine, a_msgCore, a_msgInfo, a_msgAcks, a_msgWords, a_inWords)) : wpX_takeGrant post (f_msgGetS, f_msgGetM, f_msgPut, f_msgDone, f_msgCopyBack, f_msgFwdS, f_msgFwdM, f_msgInv, f_msgAck, f_msgData, f_msgGrant, f_msgPutAck, f_stFree, f_stS, f_stE, f_stM, f_stIS, f_stIM, f_stSM, f_stSI, f_stEI, f_stMI, f_stII, f_coreCount, f_lineCount, f_frameCount, f_msgCount, f_inType, f_inTo, f_inLine, f_inCore, f_inInfo, f_inAcks, a_opKind, a_opAddress, a_opOperand, a_opResult, a_opPerformed, a_acc, a_closedCount, a_nextVictim, a_frameLine, a_frameState, a_frameTarget, a_frameAcks, a_frameGranted, a_frameWords, a_memory, a_current, a_homeOwner, a_homeSharers, a_homeNextOwner, a_homeNextSharers, a_homeBusy, a_homeAwaits, a_queueHead, a_queueLength, a_queueType, a_queueCore, a_queueInfo, a_queueWords, a_msgType, a_msgTo, a_msgLine, a_msgCore, a_msgInfo, a_msgAcks, a_msgWords, a_inWords) (nI q) := by
  have h := dm_w_tg_l hq a_frameWords K 4 0 (by omega)
  rw [dm_cp0] at h
  exact br_t ht ⟨5, h⟩
theorem dm_w_tgG {post : SX → Prop} {q : Nat} (hq : q < 16) (ht : ¬ f_inType = 9) (K : post (f_msgGetS, f_msgGetM, f_msgPut, f_msgDone, f_msgCopyBack, f_msgFwdS, f_msgFwdM, f_msgInv, f_msgAck, f_msgData, f_msgGrant, f_msgPutAck, f_stFree, f_stS, f_stE, f_stM, f_stIS, f_stIM, f_stSM, f_stSI, f_stEI, f_stMI, f_stII, f_coreCount, f_lineCount, f_frameCount, f_msgCount, f_inType, f_inTo, f_inLine, f_inCore, f_inInfo, f_inAcks, a_opKind, a_opAddress, a_opOperand, a_opResult, a_opPerformed, a_acc, a_closedCount, a_nextVictim, a_frameLine, a_frameState, upd a_frameTarget q f_inInfo, upd a_frameAcks q (a_frameAcks q + f_inAcks), upd a_frameGranted q 1, a_frameWords, a_memory, a_current, a_homeOwner, a_homeSharers, a_homeNextOwner, a_homeNextSharers, a_homeBusy, a_homeAwaits, a_queueHead, a_queueLength, a_queueType, a_queueCore, a_queueInfo, a_queueWords, a_msgType, a_msgTo, a_msgLine, a_msgCore, a_msgInfo, a_msgAcks, a_msgWords, a_inWords)) : wpX_takeGrant post (f_msgGetS, f_msgGetM, f_msgPut, f_msgDone, f_msgCopyBack, f_msgFwdS, f_msgFwdM, f_msgInv, f_msgAck, f_msgData, f_msgGrant, f_msgPutAck, f_stFree, f_stS, f_stE, f_stM, f_stIS, f_stIM, f_stSM, f_stSI, f_stEI, f_stMI, f_stII, f_coreCount, f_lineCount, f_frameCount, f_msgCount, f_inType, f_inTo, f_inLine, f_inCore, f_inInfo, f_inAcks, a_opKind, a_opAddress, a_opOperand, a_opResult, a_opPerformed, a_acc, a_closedCount, a_nextVictim, a_frameLine, a_frameState, a_frameTarget, a_frameAcks, a_frameGranted, a_frameWords, a_memory, a_current, a_homeOwner, a_homeSharers, a_homeNextOwner, a_homeNextSharers, a_homeBusy, a_homeAwaits, a_queueHead, a_queueLength, a_queueType, a_queueCore, a_queueInfo, a_queueWords, a_msgType, a_msgTo, a_msgLine, a_msgCore, a_msgInfo, a_msgAcks, a_msgWords, a_inWords) (nI q) :=
  br_f ht (dm_w_tg38 hq K)
theorem dm_w_cir0 {post : SX → Prop} {q : Nat} {p0 : Int32} (hq : q < 16) (h : a_frameGranted q = 0 ∨ ¬ a_frameAcks q = 0) (K : post (f_msgGetS, f_msgGetM, f_msgPut, f_msgDone, f_msgCopyBack, f_msgFwdS, f_msgFwdM, f_msgInv, f_msgAck, f_msgData, f_msgGrant, f_msgPutAck, f_stFree, f_stS, f_stE, f_stM, f_stIS, f_stIM, f_stSM, f_stSI, f_stEI, f_stMI, f_stII, f_coreCount, f_lineCount, f_frameCount, f_msgCount, f_inType, f_inTo, f_inLine, f_inCore, f_inInfo, f_inAcks, a_opKind, a_opAddress, a_opOperand, a_opResult, a_opPerformed, a_acc, a_closedCount, a_nextVictim, a_frameLine, a_frameState, a_frameTarget, a_frameAcks, a_frameGranted, a_frameWords, a_memory, a_current, a_homeOwner, a_homeSharers, a_homeNextOwner, a_homeNextSharers, a_homeBusy, a_homeAwaits, a_queueHead, a_queueLength, a_queueType, a_queueCore, a_queueInfo, a_queueWords, a_msgType, a_msgTo, a_msgLine, a_msgCore, a_msgInfo, a_msgAcks, a_msgWords, a_inWords)) : wpX_completeIfReady post (f_msgGetS, f_msgGetM, f_msgPut, f_msgDone, f_msgCopyBack, f_msgFwdS, f_msgFwdM, f_msgInv, f_msgAck, f_msgData, f_msgGrant, f_msgPutAck, f_stFree, f_stS, f_stE, f_stM, f_stIS, f_stIM, f_stSM, f_stSI, f_stEI, f_stMI, f_stII, f_coreCount, f_lineCount, f_frameCount, f_msgCount, f_inType, f_inTo, f_inLine, f_inCore, f_inInfo, f_inAcks, a_opKind, a_opAddress, a_opOperand, a_opResult, a_opPerformed, a_acc, a_closedCount, a_nextVictim, a_frameLine, a_frameState, a_frameTarget, a_frameAcks, a_frameGranted, a_frameWords, a_memory, a_current, a_homeOwner, a_homeSharers, a_homeNextOwner, a_homeNextSharers, a_homeBusy, a_homeAwaits, a_queueHead, a_queueLength, a_queueType, a_queueCore, a_queueInfo, a_queueWords, a_msgType, a_msgTo, a_msgLine, a_msgCore, a_msgInfo, a_msgAcks, a_msgWords, a_inWords) p0 (nI q) := by
  have hi : vp_in (nI q) 16 := vp_in_nI (by omega) (by omega)
  have hc : (nI q).toNatClampNeg = q := nI_clamp (by omega)
  refine ⟨hi, br_c (fun _ => K) (fun a => ⟨hi, br_f ?_ K⟩)⟩
  rw [hc] at a ⊢
  exact h.resolve_left a
theorem dm_w_cir1 {post : SX → Prop} {q M : Nat} {p0 : Int32} (hq : q < 16) (hM : M < 128) (h1 : ¬ a_frameGranted q = 0) (h2 : a_frameAcks q = 0) (K : post (f_msgGetS, f_msgGetM, f_msgPut, f_msgDone, f_msgCopyBack, f_msgFwdS, f_msgFwdM, f_msgInv, f_msgAck, f_msgData, f_msgGrant, f_msgPutAck, f_stFree, f_stS, f_stE, f_stM, f_stIS, f_stIM, f_stSM, f_stSI, f_stEI, f_stMI, f_stII, f_coreCount, f_lineCount, f_frameCount, nI (M + 1), f_inType, f_inTo, f_inLine, f_inCore, f_inInfo, f_inAcks, a_opKind, a_opAddress, a_opOperand, a_opResult, a_opPerformed, a_acc, a_closedCount, a_nextVictim, a_frameLine, upd a_frameState q (a_frameTarget q), a_frameTarget, a_frameAcks, upd a_frameGranted q 0, a_frameWords, a_memory, a_current, a_homeOwner, a_homeSharers, a_homeNextOwner, a_homeNextSharers, a_homeBusy, a_homeAwaits, a_queueHead, a_queueLength, a_queueType, a_queueCore, a_queueInfo, a_queueWords, upd a_msgType M 3, upd a_msgTo M 4, upd a_msgLine M (a_frameLine q), upd a_msgCore M p0, upd a_msgInfo M 0, upd a_msgAcks M 0, a_msgWords, a_inWords)) : wpX_completeIfReady post (f_msgGetS, f_msgGetM, f_msgPut, f_msgDone, f_msgCopyBack, f_msgFwdS, f_msgFwdM, f_msgInv, f_msgAck, f_msgData, f_msgGrant, f_msgPutAck, f_stFree, f_stS, f_stE, f_stM, f_stIS, f_stIM, f_stSM, f_stSI, f_stEI, f_stMI, f_stII, f_coreCount, f_lineCount, f_frameCount, nI M, f_inType, f_inTo, f_inLine, f_inCore, f_inInfo, f_inAcks, a_opKind, a_opAddress, a_opOperand, a_opResult, a_opPerformed, a_acc, a_closedCount, a_nextVictim, a_frameLine, a_frameState, a_frameTarget, a_frameAcks, a_frameGranted, a_frameWords, a_memory, a_current, a_homeOwner, a_homeSharers, a_homeNextOwner, a_homeNextSharers, a_homeBusy, a_homeAwaits, a_queueHead, a_queueLength, a_queueType, a_queueCore, a_queueInfo, a_queueWords, a_msgType, a_msgTo, a_msgLine, a_msgCore, a_msgInfo, a_msgAcks, a_msgWords, a_inWords) p0 (nI q) := by
  have hi : vp_in (nI q) 16 := vp_in_nI (by omega) (by omega)
  have hc : (nI q).toNatClampNeg = q := nI_clamp (by omega)
  rw [← hc] at h1 h2
  refine ⟨hi, br_f h1 ⟨hi, br_t h2 ⟨hi, nm_r (dm_ub0 hc) ⟨hi, hi, nm_r (e' := upd a_frameState q (a_frameTarget q)) (by rw [hc]) ⟨hi, ?_⟩⟩⟩⟩⟩
  rw [hc]
  exact dm_w_post _ _ _ _ _ _ hM K
theorem dm_w_rel {post : SX → Prop} {q : Nat} (hq : q < 16) (K : post (f_msgGetS, f_msgGetM, f_msgPut, f_msgDone, f_msgCopyBack, f_msgFwdS, f_msgFwdM, f_msgInv, f_msgAck, f_msgData, f_msgGrant, f_msgPutAck, f_stFree, f_stS, f_stE, f_stM, f_stIS, f_stIM, f_stSM, f_stSI, f_stEI, f_stMI, f_stII, f_coreCount, f_lineCount, f_frameCount, f_msgCount, f_inType, f_inTo, f_inLine, f_inCore, f_inInfo, f_inAcks, a_opKind, a_opAddress, a_opOperand, a_opResult, a_opPerformed, a_acc, a_closedCount, a_nextVictim, upd a_frameLine q (-1), upd a_frameState q 0, a_frameTarget, upd a_frameAcks q 0, upd a_frameGranted q 0, a_frameWords, a_memory, a_current, a_homeOwner, a_homeSharers, a_homeNextOwner, a_homeNextSharers, a_homeBusy, a_homeAwaits, a_queueHead, a_queueLength, a_queueType, a_queueCore, a_queueInfo, a_queueWords, a_msgType, a_msgTo, a_msgLine, a_msgCore, a_msgInfo, a_msgAcks, a_msgWords, a_inWords)) : wpX_release post (f_msgGetS, f_msgGetM, f_msgPut, f_msgDone, f_msgCopyBack, f_msgFwdS, f_msgFwdM, f_msgInv, f_msgAck, f_msgData, f_msgGrant, f_msgPutAck, f_stFree, f_stS, f_stE, f_stM, f_stIS, f_stIM, f_stSM, f_stSI, f_stEI, f_stMI, f_stII, f_coreCount, f_lineCount, f_frameCount, f_msgCount, f_inType, f_inTo, f_inLine, f_inCore, f_inInfo, f_inAcks, a_opKind, a_opAddress, a_opOperand, a_opResult, a_opPerformed, a_acc, a_closedCount, a_nextVictim, a_frameLine, a_frameState, a_frameTarget, a_frameAcks, a_frameGranted, a_frameWords, a_memory, a_current, a_homeOwner, a_homeSharers, a_homeNextOwner, a_homeNextSharers, a_homeBusy, a_homeAwaits, a_queueHead, a_queueLength, a_queueType, a_queueCore, a_queueInfo, a_queueWords, a_msgType, a_msgTo, a_msgLine, a_msgCore, a_msgInfo, a_msgAcks, a_msgWords, a_inWords) (nI q) := by
  have hi : vp_in (nI q) 16 := vp_in_nI (by omega) (by omega)
  have hc : (nI q).toNatClampNeg = q := nI_clamp (by omega)
  exact ⟨hi, nm_r (dm_ue hc) ⟨hi, nm_r (dm_ue hc) ⟨hi, nm_r (dm_ub0 hc) ⟨hi, nm_r (dm_ue hc) K⟩⟩⟩⟩
theorem dm_w_fetch0 {post : SX → Prop} {q M : Nat} {p0 p2 : Int32} (hq : q < 16) (hM : M < 128) (K : post (f_msgGetS, f_msgGetM, f_msgPut, f_msgDone, f_msgCopyBack, f_msgFwdS, f_msgFwdM, f_msgInv, f_msgAck, f_msgData, f_msgGrant, f_msgPutAck, f_stFree, f_stS, f_stE, f_stM, f_stIS, f_stIM, f_stSM, f_stSI, f_stEI, f_stMI, f_stII, f_coreCount, f_lineCount, f_frameCount, nI (M + 1), f_inType, f_inTo, f_inLine, f_inCore, f_inInfo, f_inAcks, a_opKind, a_opAddress, a_opOperand, a_opResult, a_opPerformed, a_acc, a_closedCount, a_nextVictim, upd a_frameLine q p2, upd a_frameState q 4, a_frameTarget, upd a_frameAcks q 0, upd a_frameGranted q 0, a_frameWords, a_memory, a_current, a_homeOwner, a_homeSharers, a_homeNextOwner, a_homeNextSharers, a_homeBusy, a_homeAwaits, a_queueHead, a_queueLength, a_queueType, a_queueCore, a_queueInfo, a_queueWords, upd a_msgType M 0, upd a_msgTo M 4, upd a_msgLine M p2, upd a_msgCore M p0, upd a_msgInfo M 0, upd a_msgAcks M 0, a_msgWords, a_inWords)) : wpX_fetch post (f_msgGetS, f_msgGetM, f_msgPut, f_msgDone, f_msgCopyBack, f_msgFwdS, f_msgFwdM, f_msgInv, f_msgAck, f_msgData, f_msgGrant, f_msgPutAck, f_stFree, f_stS, f_stE, f_stM, f_stIS, f_stIM, f_stSM, f_stSI, f_stEI, f_stMI, f_stII, f_coreCount, f_lineCount, f_frameCount, nI M, f_inType, f_inTo, f_inLine, f_inCore, f_inInfo, f_inAcks, a_opKind, a_opAddress, a_opOperand, a_opResult, a_opPerformed, a_acc, a_closedCount, a_nextVictim, a_frameLine, a_frameState, a_frameTarget, a_frameAcks, a_frameGranted, a_frameWords, a_memory, a_current, a_homeOwner, a_homeSharers, a_homeNextOwner, a_homeNextSharers, a_homeBusy, a_homeAwaits, a_queueHead, a_queueLength, a_queueType, a_queueCore, a_queueInfo, a_queueWords, a_msgType, a_msgTo, a_msgLine, a_msgCore, a_msgInfo, a_msgAcks, a_msgWords, a_inWords) p0 (nI q) p2 0 := by
  have hi : vp_in (nI q) 16 := vp_in_nI (by omega) (by omega)
  have hc : (nI q).toNatClampNeg = q := nI_clamp (by omega)
  exact ⟨hi, nm_r (dm_ue hc) ⟨hi, nm_r (dm_ub0 hc) ⟨hi, nm_r (dm_ue hc) (br_t rfl ⟨hi, nm_r (dm_ue hc) (dm_w_post _ _ _ _ _ _ hM K)⟩)⟩⟩⟩
theorem dm_w_fetch1 {post : SX → Prop} {q M : Nat} {p0 p2 p3 : Int32} (hq : q < 16) (hM : M < 128) (h3 : ¬ p3 = 0) (K : post (f_msgGetS, f_msgGetM, f_msgPut, f_msgDone, f_msgCopyBack, f_msgFwdS, f_msgFwdM, f_msgInv, f_msgAck, f_msgData, f_msgGrant, f_msgPutAck, f_stFree, f_stS, f_stE, f_stM, f_stIS, f_stIM, f_stSM, f_stSI, f_stEI, f_stMI, f_stII, f_coreCount, f_lineCount, f_frameCount, nI (M + 1), f_inType, f_inTo, f_inLine, f_inCore, f_inInfo, f_inAcks, a_opKind, a_opAddress, a_opOperand, a_opResult, a_opPerformed, a_acc, a_closedCount, a_nextVictim, upd a_frameLine q p2, upd a_frameState q 5, a_frameTarget, upd a_frameAcks q 0, upd a_frameGranted q 0, a_frameWords, a_memory, a_current, a_homeOwner, a_homeSharers, a_homeNextOwner, a_homeNextSharers, a_homeBusy, a_homeAwaits, a_queueHead, a_queueLength, a_queueType, a_queueCore, a_queueInfo, a_queueWords, upd a_msgType M 1, upd a_msgTo M 4, upd a_msgLine M p2, upd a_msgCore M p0, upd a_msgInfo M 0, upd a_msgAcks M 0, a_msgWords, a_inWords)) : wpX_fetch post (f_msgGetS, f_msgGetM, f_msgPut, f_msgDone, f_msgCopyBack, f_msgFwdS, f_msgFwdM, f_msgInv, f_msgAck, f_msgData, f_msgGrant, f_msgPutAck, f_stFree, f_stS, f_stE, f_stM, f_stIS, f_stIM, f_stSM, f_stSI, f_stEI, f_stMI, f_stII, f_coreCount, f_lineCount, f_frameCount, nI M, f_inType, f_inTo, f_inLine, f_inCore, f_inInfo, f_inAcks, a_opKind, a_opAddress, a_opOperand, a_opResult, a_opPerformed, a_acc, a_closedCount, a_nextVictim, a_frameLine, a_frameState, a_frameTarget, a_frameAcks, a_frameGranted, a_frameWords, a_memory, a_current, a_homeOwner, a_homeSharers, a_homeNextOwner, a_homeNextSharers, a_homeBusy, a_homeAwaits, a_queueHead, a_queueLength, a_queueType, a_queueCore, a_queueInfo, a_queueWords, a_msgType, a_msgTo, a_msgLine, a_msgCore, a_msgInfo, a_msgAcks, a_msgWords, a_inWords) p0 (nI q) p2 p3 := by
  have hi : vp_in (nI q) 16 := vp_in_nI (by omega) (by omega)
  have hc : (nI q).toNatClampNeg = q := nI_clamp (by omega)
  exact ⟨hi, nm_r (dm_ue hc) ⟨hi, nm_r (dm_ub0 hc) ⟨hi, nm_r (dm_ue hc) (br_f h3 ⟨hi, nm_r (dm_ue hc) (dm_w_post _ _ _ _ _ _ hM K)⟩)⟩⟩⟩
theorem dm_w_upg {post : SX → Prop} {q M : Nat} {p0 : Int32} (hq : q < 16) (hM : M < 128) (K : post (f_msgGetS, f_msgGetM, f_msgPut, f_msgDone, f_msgCopyBack, f_msgFwdS, f_msgFwdM, f_msgInv, f_msgAck, f_msgData, f_msgGrant, f_msgPutAck, f_stFree, f_stS, f_stE, f_stM, f_stIS, f_stIM, f_stSM, f_stSI, f_stEI, f_stMI, f_stII, f_coreCount, f_lineCount, f_frameCount, nI (M + 1), f_inType, f_inTo, f_inLine, f_inCore, f_inInfo, f_inAcks, a_opKind, a_opAddress, a_opOperand, a_opResult, a_opPerformed, a_acc, a_closedCount, a_nextVictim, a_frameLine, upd a_frameState q 6, a_frameTarget, upd a_frameAcks q 0, upd a_frameGranted q 0, a_frameWords, a_memory, a_current, a_homeOwner, a_homeSharers, a_homeNextOwner, a_homeNextSharers, a_homeBusy, a_homeAwaits, a_queueHead, a_queueLength, a_queueType, a_queueCore, a_queueInfo, a_queueWords, upd a_msgType M 1, upd a_msgTo M 4, upd a_msgLine M (a_frameLine q), upd a_msgCore M p0, upd a_msgInfo M 0, upd a_msgAcks M 0, a_msgWords, a_inWords)) : wpX_upgrade post (f_msgGetS, f_msgGetM, f_msgPut, f_msgDone, f_msgCopyBack, f_msgFwdS, f_msgFwdM, f_msgInv, f_msgAck, f_msgData, f_msgGrant, f_msgPutAck, f_stFree, f_stS, f_stE, f_stM, f_stIS, f_stIM, f_stSM, f_stSI, f_stEI, f_stMI, f_stII, f_coreCount, f_lineCount, f_frameCount, nI M, f_inType, f_inTo, f_inLine, f_inCore, f_inInfo, f_inAcks, a_opKind, a_opAddress, a_opOperand, a_opResult, a_opPerformed, a_acc, a_closedCount, a_nextVictim, a_frameLine, a_frameState, a_frameTarget, a_frameAcks, a_frameGranted, a_frameWords, a_memory, a_current, a_homeOwner, a_homeSharers, a_homeNextOwner, a_homeNextSharers, a_homeBusy, a_homeAwaits, a_queueHead, a_queueLength, a_queueType, a_queueCore, a_queueInfo, a_queueWords, a_msgType, a_msgTo, a_msgLine, a_msgCore, a_msgInfo, a_msgAcks, a_msgWords, a_inWords) p0 (nI q) := by
  have hi : vp_in (nI q) 16 := vp_in_nI (by omega) (by omega)
  have hc : (nI q).toNatClampNeg = q := nI_clamp (by omega)
  refine ⟨hi, nm_r (dm_ub0 hc) ⟨hi, nm_r (dm_ue hc) ⟨hi, nm_r (dm_ue hc) ⟨hi, ?_⟩⟩⟩⟩
  rw [hc]
  exact dm_w_post _ _ _ _ _ _ hM K
theorem dm_w_give3 {post : SX → Prop} {q M : Nat} {p0 : Int32} (hq : q < 16) (hM : M < 128) (h3 : a_frameState q = 3) (K : post (f_msgGetS, f_msgGetM, f_msgPut, f_msgDone, f_msgCopyBack, f_msgFwdS, f_msgFwdM, f_msgInv, f_msgAck, f_msgData, f_msgGrant, f_msgPutAck, f_stFree, f_stS, f_stE, f_stM, f_stIS, f_stIM, f_stSM, f_stSI, f_stEI, f_stMI, f_stII, f_coreCount, f_lineCount, f_frameCount, nI (M + 1), f_inType, f_inTo, f_inLine, f_inCore, f_inInfo, f_inAcks, a_opKind, a_opAddress, a_opOperand, a_opResult, a_opPerformed, a_acc, a_closedCount, a_nextVictim, a_frameLine, upd a_frameState q 9, a_frameTarget, a_frameAcks, a_frameGranted, a_frameWords, a_memory, a_current, a_homeOwner, a_homeSharers, a_homeNextOwner, a_homeNextSharers, a_homeBusy, a_homeAwaits, a_queueHead, a_queueLength, a_queueType, a_queueCore, a_queueInfo, a_queueWords, upd a_msgType M 2, upd a_msgTo M 4, upd a_msgLine M (a_frameLine q), upd a_msgCore M p0, upd a_msgInfo M 1, upd a_msgAcks M 0, dm_cp a_msgWords (4 * M) a_frameWords (4 * q) 4, a_inWords)) : wpX_giveUp post (f_msgGetS, f_msgGetM, f_msgPut, f_msgDone, f_msgCopyBack, f_msgFwdS, f_msgFwdM, f_msgInv, f_msgAck, f_msgData, f_msgGrant, f_msgPutAck, f_stFree, f_stS, f_stE, f_stM, f_stIS, f_stIM, f_stSM, f_stSI, f_stEI, f_stMI, f_stII, f_coreCount, f_lineCount, f_frameCount, nI M, f_inType, f_inTo, f_inLine, f_inCore, f_inInfo, f_inAcks, a_opKind, a_opAddress, a_opOperand, a_opResult, a_opPerformed, a_acc, a_closedCount, a_nextVictim, a_frameLine, a_frameState, a_frameTarget, a_frameAcks, a_frameGranted, a_frameWords, a_memory, a_current, a_homeOwner, a_homeSharers, a_homeNextOwner, a_homeNextSharers, a_homeBusy, a_homeAwaits, a_queueHead, a_queueLength, a_queueType, a_queueCore, a_queueInfo, a_queueWords, a_msgType, a_msgTo, a_msgLine, a_msgCore, a_msgInfo, a_msgAcks, a_msgWords, a_inWords) p0 (nI q) := by
  have hi : vp_in (nI q) 16 := vp_in_nI (by omega) (by omega)
  have hc : (nI q).toNatClampNeg = q := nI_clamp (by omega)
  exact ⟨hi, nm_r (congrArg a_frameLine hc) ⟨hi, nm_r (congrArg a_frameState hc) (br_t h3 ⟨hi, nm_r (dm_ue hc) (dm_w_post _ _ _ _ _ _ hM (dm_w_attF hM hq K))⟩)⟩⟩
theorem dm_w_give2 {post : SX → Prop} {q M : Nat} {p0 : Int32} (hq : q < 16) (hM : M < 128) (h3 : ¬ a_frameState q = 3) (h2 : a_frameState q = 2) (K : post (f_msgGetS, f_msgGetM, f_msgPut, f_msgDone, f_msgCopyBack, f_msgFwdS, f_msgFwdM, f_msgInv, f_msgAck, f_msgData, f_msgGrant, f_msgPutAck, f_stFree, f_stS, f_stE, f_stM, f_stIS, f_stIM, f_stSM, f_stSI, f_stEI, f_stMI, f_stII, f_coreCount, f_lineCount, f_frameCount, nI (M + 1), f_inType, f_inTo, f_inLine, f_inCore, f_inInfo, f_inAcks, a_opKind, a_opAddress, a_opOperand, a_opResult, a_opPerformed, a_acc, a_closedCount, a_nextVictim, a_frameLine, upd a_frameState q 8, a_frameTarget, a_frameAcks, a_frameGranted, a_frameWords, a_memory, a_current, a_homeOwner, a_homeSharers, a_homeNextOwner, a_homeNextSharers, a_homeBusy, a_homeAwaits, a_queueHead, a_queueLength, a_queueType, a_queueCore, a_queueInfo, a_queueWords, upd a_msgType M 2, upd a_msgTo M 4, upd a_msgLine M (a_frameLine q), upd a_msgCore M p0, upd a_msgInfo M 0, upd a_msgAcks M 0, a_msgWords, a_inWords)) : wpX_giveUp post (f_msgGetS, f_msgGetM, f_msgPut, f_msgDone, f_msgCopyBack, f_msgFwdS, f_msgFwdM, f_msgInv, f_msgAck, f_msgData, f_msgGrant, f_msgPutAck, f_stFree, f_stS, f_stE, f_stM, f_stIS, f_stIM, f_stSM, f_stSI, f_stEI, f_stMI, f_stII, f_coreCount, f_lineCount, f_frameCount, nI M, f_inType, f_inTo, f_inLine, f_inCore, f_inInfo, f_inAcks, a_opKind, a_opAddress, a_opOperand, a_opResult, a_opPerformed, a_acc, a_closedCount, a_nextVictim, a_frameLine, a_frameState, a_frameTarget, a_frameAcks, a_frameGranted, a_frameWords, a_memory, a_current, a_homeOwner, a_homeSharers, a_homeNextOwner, a_homeNextSharers, a_homeBusy, a_homeAwaits, a_queueHead, a_queueLength, a_queueType, a_queueCore, a_queueInfo, a_queueWords, a_msgType, a_msgTo, a_msgLine, a_msgCore, a_msgInfo, a_msgAcks, a_msgWords, a_inWords) p0 (nI q) := by
  have hi : vp_in (nI q) 16 := vp_in_nI (by omega) (by omega)
  have hc : (nI q).toNatClampNeg = q := nI_clamp (by omega)
  exact ⟨hi, nm_r (congrArg a_frameLine hc) ⟨hi, nm_r (congrArg a_frameState hc) (br_f h3 (br_t h2 ⟨hi, nm_r (dm_ue hc) (dm_w_post _ _ _ _ _ _ hM K)⟩))⟩⟩
theorem dm_w_give1 {post : SX → Prop} {q M : Nat} {p0 : Int32} (hq : q < 16) (hM : M < 128) (h3 : ¬ a_frameState q = 3) (h2 : ¬ a_frameState q = 2) (K : post (f_msgGetS, f_msgGetM, f_msgPut, f_msgDone, f_msgCopyBack, f_msgFwdS, f_msgFwdM, f_msgInv, f_msgAck, f_msgData, f_msgGrant, f_msgPutAck, f_stFree, f_stS, f_stE, f_stM, f_stIS, f_stIM, f_stSM, f_stSI, f_stEI, f_stMI, f_stII, f_coreCount, f_lineCount, f_frameCount, nI (M + 1), f_inType, f_inTo, f_inLine, f_inCore, f_inInfo, f_inAcks, a_opKind, a_opAddress, a_opOperand, a_opResult, a_opPerformed, a_acc, a_closedCount, a_nextVictim, a_frameLine, upd a_frameState q 7, a_frameTarget, a_frameAcks, a_frameGranted, a_frameWords, a_memory, a_current, a_homeOwner, a_homeSharers, a_homeNextOwner, a_homeNextSharers, a_homeBusy, a_homeAwaits, a_queueHead, a_queueLength, a_queueType, a_queueCore, a_queueInfo, a_queueWords, upd a_msgType M 2, upd a_msgTo M 4, upd a_msgLine M (a_frameLine q), upd a_msgCore M p0, upd a_msgInfo M 0, upd a_msgAcks M 0, a_msgWords, a_inWords)) : wpX_giveUp post (f_msgGetS, f_msgGetM, f_msgPut, f_msgDone, f_msgCopyBack, f_msgFwdS, f_msgFwdM, f_msgInv, f_msgAck, f_msgData, f_msgGrant, f_msgPutAck, f_stFree, f_stS, f_stE, f_stM, f_stIS, f_stIM, f_stSM, f_stSI, f_stEI, f_stMI, f_stII, f_coreCount, f_lineCount, f_frameCount, nI M, f_inType, f_inTo, f_inLine, f_inCore, f_inInfo, f_inAcks, a_opKind, a_opAddress, a_opOperand, a_opResult, a_opPerformed, a_acc, a_closedCount, a_nextVictim, a_frameLine, a_frameState, a_frameTarget, a_frameAcks, a_frameGranted, a_frameWords, a_memory, a_current, a_homeOwner, a_homeSharers, a_homeNextOwner, a_homeNextSharers, a_homeBusy, a_homeAwaits, a_queueHead, a_queueLength, a_queueType, a_queueCore, a_queueInfo, a_queueWords, a_msgType, a_msgTo, a_msgLine, a_msgCore, a_msgInfo, a_msgAcks, a_msgWords, a_inWords) p0 (nI q) := by
  have hi : vp_in (nI q) 16 := vp_in_nI (by omega) (by omega)
  have hc : (nI q).toNatClampNeg = q := nI_clamp (by omega)
  exact ⟨hi, nm_r (congrArg a_frameLine hc) ⟨hi, nm_r (congrArg a_frameState hc) (br_f h3 (br_f h2 ⟨hi, nm_r (dm_ue hc) (dm_w_post _ _ _ _ _ _ hM K)⟩))⟩⟩
end
end
section
section
variable {f_msgGetS f_msgGetM f_msgPut f_msgDone f_msgCopyBack f_msgFwdS f_msgFwdM f_msgInv f_msgAck f_msgData f_msgGrant f_msgPutAck f_stFree f_stS f_stE f_stM f_stIS f_stIM f_stSM f_stSI f_stEI f_stMI f_stII f_coreCount f_lineCount f_frameCount f_msgCount f_inType f_inTo f_inLine f_inCore f_inInfo f_inAcks : Int32} {a_opKind a_opAddress a_opOperand a_opResult a_opPerformed a_acc a_closedCount a_nextVictim a_frameLine a_frameState a_frameTarget a_frameAcks a_frameGranted a_frameWords a_memory a_current a_homeOwner a_homeSharers a_homeNextOwner a_homeNextSharers a_homeBusy a_homeAwaits a_queueHead a_queueLength a_queueType a_queueCore a_queueInfo a_queueWords a_msgType a_msgTo a_msgLine a_msgCore a_msgInfo a_msgAcks a_msgWords a_inWords : Nat → Int32}
theorem dm_w_srO {post : SX → Prop} {l c o M : Nat} (hl : l < 8) (hM : M < 128) (ho : a_homeOwner l = nI o) (ho4 : o < 4) (K : post (f_msgGetS, f_msgGetM, f_msgPut, f_msgDone, f_msgCopyBack, f_msgFwdS, f_msgFwdM, f_msgInv, f_msgAck, f_msgData, f_msgGrant, f_msgPutAck, f_stFree, f_stS, f_stE, f_stM, f_stIS, f_stIM, f_stSM, f_stSI, f_stEI, f_stMI, f_stII, f_coreCount, f_lineCount, f_frameCount, nI (M + 1), f_inType, f_inTo, f_inLine, f_inCore, f_inInfo, f_inAcks, a_opKind, a_opAddress, a_opOperand, a_opResult, a_opPerformed, a_acc, a_closedCount, a_nextVictim, a_frameLine, a_frameState, a_frameTarget, a_frameAcks, a_frameGranted, a_frameWords, a_memory, a_current, a_homeOwner, a_homeSharers, upd a_homeNextOwner l (-1), upd a_homeNextSharers l (((1 : Int32) <<< (nI c &&& 31)) ||| ((1 : Int32) <<< (nI o &&& 31))), upd a_homeBusy l 1, upd (upd a_homeAwaits l 1) l 2, a_queueHead, a_queueLength, a_queueType, a_queueCore, a_queueInfo, a_queueWords, upd a_msgType M 5, upd a_msgTo M (nI o), upd a_msgLine M (nI l), upd a_msgCore M (nI c), upd a_msgInfo M 0, upd a_msgAcks M 0, a_msgWords, a_inWords)) : wpX_serveRead post (f_msgGetS, f_msgGetM, f_msgPut, f_msgDone, f_msgCopyBack, f_msgFwdS, f_msgFwdM, f_msgInv, f_msgAck, f_msgData, f_msgGrant, f_msgPutAck, f_stFree, f_stS, f_stE, f_stM, f_stIS, f_stIM, f_stSM, f_stSI, f_stEI, f_stMI, f_stII, f_coreCount, f_lineCount, f_frameCount, nI M, f_inType, f_inTo, f_inLine, f_inCore, f_inInfo, f_inAcks, a_opKind, a_opAddress, a_opOperand, a_opResult, a_opPerformed, a_acc, a_closedCount, a_nextVictim, a_frameLine, a_frameState, a_frameTarget, a_frameAcks, a_frameGranted, a_frameWords, a_memory, a_current, a_homeOwner, a_homeSharers, a_homeNextOwner, a_homeNextSharers, a_homeBusy, a_homeAwaits, a_queueHead, a_queueLength, a_queueType, a_queueCore, a_queueInfo, a_queueWords, a_msgType, a_msgTo, a_msgLine, a_msgCore, a_msgInfo, a_msgAcks, a_msgWords, a_inWords) (nI l) (nI c) := by
  have hi : vp_in (nI l) 8 := vp_in_nI (by omega) (by omega)
  have hc : (nI l).toNatClampNeg = l := nI_clamp (by omega)
  exact nm_e ⟨hi, nm_r ((congrArg a_homeOwner hc).trans ho) ⟨hi, nm_r (dm_ub1 hc) ⟨hi, nm_r (dm_ue hc) (br_f (nI_pos (by omega)) ⟨hi, nm_r (dm_ue hc) ⟨hi, nm_r (dm_ue hc) ⟨hi, nm_r (dm_ue hc) (dm_w_post _ _ _ _ _ _ hM K)⟩⟩⟩)⟩⟩⟩
theorem dm_w_srE {post : SX → Prop} {l c M : Nat} (hl : l < 8) (hM : M < 128) (ho : a_homeOwner l < 0) (hs : a_homeSharers l = 0) (K : post (f_msgGetS, f_msgGetM, f_msgPut, f_msgDone, f_msgCopyBack, f_msgFwdS, f_msgFwdM, f_msgInv, f_msgAck, f_msgData, f_msgGrant, f_msgPutAck, f_stFree, f_stS, f_stE, f_stM, f_stIS, f_stIM, f_stSM, f_stSI, f_stEI, f_stMI, f_stII, f_coreCount, f_lineCount, f_frameCount, nI (M + 1), f_inType, f_inTo, f_inLine, f_inCore, f_inInfo, f_inAcks, a_opKind, a_opAddress, a_opOperand, a_opResult, a_opPerformed, a_acc, a_closedCount, a_nextVictim, a_frameLine, a_frameState, a_frameTarget, a_frameAcks, a_frameGranted, a_frameWords, a_memory, a_current, a_homeOwner, a_homeSharers, upd a_homeNextOwner l (nI c), upd a_homeNextSharers l 0, upd a_homeBusy l 1, upd a_homeAwaits l 1, a_queueHead, a_queueLength, a_queueType, a_queueCore, a_queueInfo, a_queueWords, upd a_msgType M 9, upd a_msgTo M (nI c), upd a_msgLine M (nI l), upd a_msgCore M (nI c), upd a_msgInfo M 2, upd a_msgAcks M 0, dm_cp a_msgWords (4 * M) a_memory (4 * l) 4, a_inWords)) : wpX_serveRead post (f_msgGetS, f_msgGetM, f_msgPut, f_msgDone, f_msgCopyBack, f_msgFwdS, f_msgFwdM, f_msgInv, f_msgAck, f_msgData, f_msgGrant, f_msgPutAck, f_stFree, f_stS, f_stE, f_stM, f_stIS, f_stIM, f_stSM, f_stSI, f_stEI, f_stMI, f_stII, f_coreCount, f_lineCount, f_frameCount, nI M, f_inType, f_inTo, f_inLine, f_inCore, f_inInfo, f_inAcks, a_opKind, a_opAddress, a_opOperand, a_opResult, a_opPerformed, a_acc, a_closedCount, a_nextVictim, a_frameLine, a_frameState, a_frameTarget, a_frameAcks, a_frameGranted, a_frameWords, a_memory, a_current, a_homeOwner, a_homeSharers, a_homeNextOwner, a_homeNextSharers, a_homeBusy, a_homeAwaits, a_queueHead, a_queueLength, a_queueType, a_queueCore, a_queueInfo, a_queueWords, a_msgType, a_msgTo, a_msgLine, a_msgCore, a_msgInfo, a_msgAcks, a_msgWords, a_inWords) (nI l) (nI c) := by
  have hi : vp_in (nI l) 8 := vp_in_nI (by omega) (by omega)
  have hc : (nI l).toNatClampNeg = l := nI_clamp (by omega)
  rw [← hc] at hs
  exact nm_e ⟨hi, nm_r (congrArg a_homeOwner hc) ⟨hi, nm_r (dm_ub1 hc) ⟨hi, nm_r (dm_ue hc) (br_t ho ⟨hi, br_t hs ⟨hi, nm_r (dm_ue hc) ⟨hi, nm_r (dm_ue hc) (dm_w_post _ _ _ _ _ _ hM (dm_w_attM hM hl K))⟩⟩⟩)⟩⟩⟩
theorem dm_w_srS {post : SX → Prop} {l c M : Nat} (hl : l < 8) (hM : M < 128) (ho : a_homeOwner l < 0) (hs : ¬ a_homeSharers l = 0) (K : post (f_msgGetS, f_msgGetM, f_msgPut, f_msgDone, f_msgCopyBack, f_msgFwdS, f_msgFwdM, f_msgInv, f_msgAck, f_msgData, f_msgGrant, f_msgPutAck, f_stFree, f_stS, f_stE, f_stM, f_stIS, f_stIM, f_stSM, f_stSI, f_stEI, f_stMI, f_stII, f_coreCount, f_lineCount, f_frameCount, nI (M + 1), f_inType, f_inTo, f_inLine, f_inCore, f_inInfo, f_inAcks, a_opKind, a_opAddress, a_opOperand, a_opResult, a_opPerformed, a_acc, a_closedCount, a_nextVictim, a_frameLine, a_frameState, a_frameTarget, a_frameAcks, a_frameGranted, a_frameWords, a_memory, a_current, a_homeOwner, a_homeSharers, upd a_homeNextOwner l (-1), upd a_homeNextSharers l (a_homeSharers l ||| ((1 : Int32) <<< (nI c &&& 31))), upd a_homeBusy l 1, upd a_homeAwaits l 1, a_queueHead, a_queueLength, a_queueType, a_queueCore, a_queueInfo, a_queueWords, upd a_msgType M 9, upd a_msgTo M (nI c), upd a_msgLine M (nI l), upd a_msgCore M (nI c), upd a_msgInfo M 1, upd a_msgAcks M 0, dm_cp a_msgWords (4 * M) a_memory (4 * l) 4, a_inWords)) : wpX_serveRead post (f_msgGetS, f_msgGetM, f_msgPut, f_msgDone, f_msgCopyBack, f_msgFwdS, f_msgFwdM, f_msgInv, f_msgAck, f_msgData, f_msgGrant, f_msgPutAck, f_stFree, f_stS, f_stE, f_stM, f_stIS, f_stIM, f_stSM, f_stSI, f_stEI, f_stMI, f_stII, f_coreCount, f_lineCount, f_frameCount, nI M, f_inType, f_inTo, f_inLine, f_inCore, f_inInfo, f_inAcks, a_opKind, a_opAddress, a_opOperand, a_opResult, a_opPerformed, a_acc, a_closedCount, a_nextVictim, a_frameLine, a_frameState, a_frameTarget, a_frameAcks, a_frameGranted, a_frameWords, a_memory, a_current, a_homeOwner, a_homeSharers, a_homeNextOwner, a_homeNextSharers, a_homeBusy, a_homeAwaits, a_queueHead, a_queueLength, a_queueType, a_queueCore, a_queueInfo, a_queueWords, a_msgType, a_msgTo, a_msgLine, a_msgCore, a_msgInfo, a_msgAcks, a_msgWords, a_inWords) (nI l) (nI c) := by
  have hi : vp_in (nI l) 8 := vp_in_nI (by omega) (by omega)
  have hc : (nI l).toNatClampNeg = l := nI_clamp (by omega)
  have e1 : upd a_homeNextSharers (nI l).toNatClampNeg (a_homeSharers (nI l).toNatClampNeg ||| ((1 : Int32) <<< (nI c &&& 31))) = upd a_homeNextSharers l (a_homeSharers l ||| ((1 : Int32) <<< (nI c &&& 31))) := by rw [hc]
  rw [← hc] at hs
  exact nm_e ⟨hi, nm_r (congrArg a_homeOwner hc) ⟨hi, nm_r (dm_ub1 hc) ⟨hi, nm_r (dm_ue hc) (br_t ho ⟨hi, br_f hs ⟨hi, nm_r (dm_ue hc) ⟨hi, hi, nm_r e1 (dm_w_post _ _ _ _ _ _ hM (dm_w_attM hM hl K))⟩⟩⟩)⟩⟩⟩
theorem dm_w_swO {post : SX → Prop} {l c o M : Nat} (hl : l < 8) (hM : M < 128) (ho : a_homeOwner l = nI o) (ho4 : o < 4) (K : post (f_msgGetS, f_msgGetM, f_msgPut, f_msgDone, f_msgCopyBack, f_msgFwdS, f_msgFwdM, f_msgInv, f_msgAck, f_msgData, f_msgGrant, f_msgPutAck, f_stFree, f_stS, f_stE, f_stM, f_stIS, f_stIM, f_stSM, f_stSI, f_stEI, f_stMI, f_stII, f_coreCount, f_lineCount, f_frameCount, nI (M + 1), f_inType, f_inTo, f_inLine, f_inCore, f_inInfo, f_inAcks, a_opKind, a_opAddress, a_opOperand, a_opResult, a_opPerformed, a_acc, a_closedCount, a_nextVictim, a_frameLine, a_frameState, a_frameTarget, a_frameAcks, a_frameGranted, a_frameWords, a_memory, a_current, a_homeOwner, a_homeSharers, upd a_homeNextOwner l (nI c), upd a_homeNextSharers l 0, upd a_homeBusy l 1, upd a_homeAwaits l 1, a_queueHead, a_queueLength, a_queueType, a_queueCore, a_queueInfo, a_queueWords, upd a_msgType M 6, upd a_msgTo M (nI o), upd a_msgLine M (nI l), upd a_msgCore M (nI c), upd a_msgInfo M 0, upd a_msgAcks M 0, a_msgWords, a_inWords)) : wpX_serveWrite post (f_msgGetS, f_msgGetM, f_msgPut, f_msgDone, f_msgCopyBack, f_msgFwdS, f_msgFwdM, f_msgInv, f_msgAck, f_msgData, f_msgGrant, f_msgPutAck, f_stFree, f_stS, f_stE, f_stM, f_stIS, f_stIM, f_stSM, f_stSI, f_stEI, f_stMI, f_stII, f_coreCount, f_lineCount, f_frameCount, nI M, f_inType, f_inTo, f_inLine, f_inCore, f_inInfo, f_inAcks, a_opKind, a_opAddress, a_opOperand, a_opResult, a_opPerformed, a_acc, a_closedCount, a_nextVictim, a_frameLine, a_frameState, a_frameTarget, a_frameAcks, a_frameGranted, a_frameWords, a_memory, a_current, a_homeOwner, a_homeSharers, a_homeNextOwner, a_homeNextSharers, a_homeBusy, a_homeAwaits, a_queueHead, a_queueLength, a_queueType, a_queueCore, a_queueInfo, a_queueWords, a_msgType, a_msgTo, a_msgLine, a_msgCore, a_msgInfo, a_msgAcks, a_msgWords, a_inWords) (nI l) (nI c) := by
  have hi : vp_in (nI l) 8 := vp_in_nI (by omega) (by omega)
  have hc : (nI l).toNatClampNeg = l := nI_clamp (by omega)
  exact ⟨hi, nm_r ((congrArg a_homeOwner hc).trans ho) ⟨hi, nm_r (dm_ub1 hc) ⟨hi, nm_r (dm_ue hc) ⟨hi, nm_r (dm_ue hc) ⟨hi, nm_r (dm_ue hc) (br_f (nI_pos (by omega)) (dm_w_post _ _ _ _ _ _ hM K))⟩⟩⟩⟩⟩
theorem dm_w_sw {post : SX → Prop} {l c : Nat} (hl : l < 8) (ho : a_homeOwner l < 0) (K : ∃ n, wX_serveWrite_66 post (nI l) (nI c) (a_homeSharers l) n 0 0 f_msgGetS f_msgGetM f_msgPut f_msgDone f_msgCopyBack f_msgFwdS f_msgFwdM f_msgInv f_msgAck f_msgData f_msgGrant f_msgPutAck f_stFree f_stS f_stE f_stM f_stIS f_stIM f_stSM f_stSI f_stEI f_stMI f_stII f_coreCount f_lineCount f_frameCount f_msgCount f_inType f_inTo f_inLine f_inCore f_inInfo f_inAcks a_opKind a_opAddress a_opOperand a_opResult a_opPerformed a_acc a_closedCount a_nextVictim a_frameLine a_frameState a_frameTarget a_frameAcks a_frameGranted a_frameWords a_memory a_current a_homeOwner a_homeSharers (upd a_homeNextOwner l (nI c)) (upd a_homeNextSharers l 0) (upd a_homeBusy l 1) (upd a_homeAwaits l 1) a_queueHead a_queueLength a_queueType a_queueCore a_queueInfo a_queueWords a_msgType a_msgTo a_msgLine a_msgCore a_msgInfo a_msgAcks a_msgWords a_inWords) : wpX_serveWrite post (f_msgGetS, f_msgGetM, f_msgPut, f_msgDone, f_msgCopyBack, f_msgFwdS, f_msgFwdM, f_msgInv, f_msgAck, f_msgData, f_msgGrant, f_msgPutAck, f_stFree, f_stS, f_stE, f_stM, f_stIS, f_stIM, f_stSM, f_stSI, f_stEI, f_stMI, f_stII, f_coreCount, f_lineCount, f_frameCount, f_msgCount, f_inType, f_inTo, f_inLine, f_inCore, f_inInfo, f_inAcks, a_opKind, a_opAddress, a_opOperand, a_opResult, a_opPerformed, a_acc, a_closedCount, a_nextVictim, a_frameLine, a_frameState, a_frameTarget, a_frameAcks, a_frameGranted, a_frameWords, a_memory, a_current, a_homeOwner, a_homeSharers, a_homeNextOwner, a_homeNextSharers, a_homeBusy, a_homeAwaits, a_queueHead, a_queueLength, a_queueType, a_queueCore, a_queueInfo, a_queueWords, a_msgType, a_msgTo, a_msgLine, a_msgCore, a_msgInfo, a_msgAcks, a_msgWords, a_inWords) (nI l) (nI c) := by
  have hi : vp_in (nI l) 8 := vp_in_nI (by omega) (by omega)
  have hc : (nI l).toNatClampNeg = l := nI_clamp (by omega)
  exact ⟨hi, nm_r (congrArg a_homeOwner hc) ⟨hi, nm_r (dm_ub1 hc) ⟨hi, nm_r (dm_ue hc) ⟨hi, nm_r (dm_ue hc) ⟨hi, nm_r (dm_ue hc) (br_t ho ⟨hi, nm_r (congrArg a_homeSharers hc) K⟩)⟩⟩⟩⟩⟩
theorem dm_w_spO1 {post : SX → Prop} {l c M : Nat} (hl : l < 8) (hM : M < 128) (ho : a_homeOwner l = nI c) (hi1 : f_inInfo = 1) (K : post (f_msgGetS, f_msgGetM, f_msgPut, f_msgDone, f_msgCopyBack, f_msgFwdS, f_msgFwdM, f_msgInv, f_msgAck, f_msgData, f_msgGrant, f_msgPutAck, f_stFree, f_stS, f_stE, f_stM, f_stIS, f_stIM, f_stSM, f_stSI, f_stEI, f_stMI, f_stII, f_coreCount, f_lineCount, f_frameCount, nI (M + 1), f_inType, f_inTo, f_inLine, f_inCore, f_inInfo, f_inAcks, a_opKind, a_opAddress, a_opOperand, a_opResult, a_opPerformed, a_acc, a_closedCount, a_nextVictim, a_frameLine, a_frameState, a_frameTarget, a_frameAcks, a_frameGranted, a_frameWords, dm_cp a_memory (4 * l) a_inWords 0 4, a_current, upd a_homeOwner l (-1), a_homeSharers, a_homeNextOwner, a_homeNextSharers, a_homeBusy, a_homeAwaits, a_queueHead, a_queueLength, a_queueType, a_queueCore, a_queueInfo, a_queueWords, upd a_msgType M 11, upd a_msgTo M (nI c), upd a_msgLine M (nI l), upd a_msgCore M (nI c), upd a_msgInfo M 0, upd a_msgAcks M 0, a_msgWords, a_inWords)) : wpX_servePut post (f_msgGetS, f_msgGetM, f_msgPut, f_msgDone, f_msgCopyBack, f_msgFwdS, f_msgFwdM, f_msgInv, f_msgAck, f_msgData, f_msgGrant, f_msgPutAck, f_stFree, f_stS, f_stE, f_stM, f_stIS, f_stIM, f_stSM, f_stSI, f_stEI, f_stMI, f_stII, f_coreCount, f_lineCount, f_frameCount, nI M, f_inType, f_inTo, f_inLine, f_inCore, f_inInfo, f_inAcks, a_opKind, a_opAddress, a_opOperand, a_opResult, a_opPerformed, a_acc, a_closedCount, a_nextVictim, a_frameLine, a_frameState, a_frameTarget, a_frameAcks, a_frameGranted, a_frameWords, a_memory, a_current, a_homeOwner, a_homeSharers, a_homeNextOwner, a_homeNextSharers, a_homeBusy, a_homeAwaits, a_queueHead, a_queueLength, a_queueType, a_queueCore, a_queueInfo, a_queueWords, a_msgType, a_msgTo, a_msgLine, a_msgCore, a_msgInfo, a_msgAcks, a_msgWords, a_inWords) (nI l) (nI c) := by
  have hi : vp_in (nI l) 8 := vp_in_nI (by omega) (by omega)
  have hc : (nI l).toNatClampNeg = l := nI_clamp (by omega)
  rw [← hc] at ho
  exact ⟨hi, br_t ho (br_t hi1 (dm_w_wmem hl ⟨hi, nm_r (dm_ue hc) (dm_w_post _ _ _ _ _ _ hM K)⟩))⟩
theorem dm_w_spO0 {post : SX → Prop} {l c M : Nat} (hl : l < 8) (hM : M < 128) (ho : a_homeOwner l = nI c) (hi1 : ¬ f_inInfo = 1) (K : post (f_msgGetS, f_msgGetM, f_msgPut, f_msgDone, f_msgCopyBack, f_msgFwdS, f_msgFwdM, f_msgInv, f_msgAck, f_msgData, f_msgGrant, f_msgPutAck, f_stFree, f_stS, f_stE, f_stM, f_stIS, f_stIM, f_stSM, f_stSI, f_stEI, f_stMI, f_stII, f_coreCount, f_lineCount, f_frameCount, nI (M + 1), f_inType, f_inTo, f_inLine, f_inCore, f_inInfo, f_inAcks, a_opKind, a_opAddress, a_opOperand, a_opResult, a_opPerformed, a_acc, a_closedCount, a_nextVictim, a_frameLine, a_frameState, a_frameTarget, a_frameAcks, a_frameGranted, a_frameWords, a_memory, a_current, upd a_homeOwner l (-1), a_homeSharers, a_homeNextOwner, a_homeNextSharers, a_homeBusy, a_homeAwaits, a_queueHead, a_queueLength, a_queueType, a_queueCore, a_queueInfo, a_queueWords, upd a_msgType M 11, upd a_msgTo M (nI c), upd a_msgLine M (nI l), upd a_msgCore M (nI c), upd a_msgInfo M 0, upd a_msgAcks M 0, a_msgWords, a_inWords)) : wpX_servePut post (f_msgGetS, f_msgGetM, f_msgPut, f_msgDone, f_msgCopyBack, f_msgFwdS, f_msgFwdM, f_msgInv, f_msgAck, f_msgData, f_msgGrant, f_msgPutAck, f_stFree, f_stS, f_stE, f_stM, f_stIS, f_stIM, f_stSM, f_stSI, f_stEI, f_stMI, f_stII, f_coreCount, f_lineCount, f_frameCount, nI M, f_inType, f_inTo, f_inLine, f_inCore, f_inInfo, f_inAcks, a_opKind, a_opAddress, a_opOperand, a_opResult, a_opPerformed, a_acc, a_closedCount, a_nextVictim, a_frameLine, a_frameState, a_frameTarget, a_frameAcks, a_frameGranted, a_frameWords, a_memory, a_current, a_homeOwner, a_homeSharers, a_homeNextOwner, a_homeNextSharers, a_homeBusy, a_homeAwaits, a_queueHead, a_queueLength, a_queueType, a_queueCore, a_queueInfo, a_queueWords, a_msgType, a_msgTo, a_msgLine, a_msgCore, a_msgInfo, a_msgAcks, a_msgWords, a_inWords) (nI l) (nI c) := by
  have hi : vp_in (nI l) 8 := vp_in_nI (by omega) (by omega)
  have hc : (nI l).toNatClampNeg = l := nI_clamp (by omega)
  rw [← hc] at ho
  exact ⟨hi, br_t ho (br_f hi1 ⟨hi, nm_r (dm_ue hc) (dm_w_post _ _ _ _ _ _ hM K)⟩)⟩
theorem dm_w_spN {post : SX → Prop} {l c M : Nat} (hl : l < 8) (hM : M < 128) (ho : ¬ a_homeOwner l = nI c) (K : post (f_msgGetS, f_msgGetM, f_msgPut, f_msgDone, f_msgCopyBack, f_msgFwdS, f_msgFwdM, f_msgInv, f_msgAck, f_msgData, f_msgGrant, f_msgPutAck, f_stFree, f_stS, f_stE, f_stM, f_stIS, f_stIM, f_stSM, f_stSI, f_stEI, f_stMI, f_stII, f_coreCount, f_lineCount, f_frameCount, nI (M + 1), f_inType, f_inTo, f_inLine, f_inCore, f_inInfo, f_inAcks, a_opKind, a_opAddress, a_opOperand, a_opResult, a_opPerformed, a_acc, a_closedCount, a_nextVictim, a_frameLine, a_frameState, a_frameTarget, a_frameAcks, a_frameGranted, a_frameWords, a_memory, a_current, a_homeOwner, upd a_homeSharers l (a_homeSharers l &&& (((1 : Int32) <<< (nI c &&& 31)) ^^^ (-1))), a_homeNextOwner, a_homeNextSharers, a_homeBusy, a_homeAwaits, a_queueHead, a_queueLength, a_queueType, a_queueCore, a_queueInfo, a_queueWords, upd a_msgType M 11, upd a_msgTo M (nI c), upd a_msgLine M (nI l), upd a_msgCore M (nI c), upd a_msgInfo M 0, upd a_msgAcks M 0, a_msgWords, a_inWords)) : wpX_servePut post (f_msgGetS, f_msgGetM, f_msgPut, f_msgDone, f_msgCopyBack, f_msgFwdS, f_msgFwdM, f_msgInv, f_msgAck, f_msgData, f_msgGrant, f_msgPutAck, f_stFree, f_stS, f_stE, f_stM, f_stIS, f_stIM, f_stSM, f_stSI, f_stEI, f_stMI, f_stII, f_coreCount, f_lineCount, f_frameCount, nI M, f_inType, f_inTo, f_inLine, f_inCore, f_inInfo, f_inAcks, a_opKind, a_opAddress, a_opOperand, a_opResult, a_opPerformed, a_acc, a_closedCount, a_nextVictim, a_frameLine, a_frameState, a_frameTarget, a_frameAcks, a_frameGranted, a_frameWords, a_memory, a_current, a_homeOwner, a_homeSharers, a_homeNextOwner, a_homeNextSharers, a_homeBusy, a_homeAwaits, a_queueHead, a_queueLength, a_queueType, a_queueCore, a_queueInfo, a_queueWords, a_msgType, a_msgTo, a_msgLine, a_msgCore, a_msgInfo, a_msgAcks, a_msgWords, a_inWords) (nI l) (nI c) := by
  have hi : vp_in (nI l) 8 := vp_in_nI (by omega) (by omega)
  have hc : (nI l).toNatClampNeg = l := nI_clamp (by omega)
  have e1 : upd a_homeSharers (nI l).toNatClampNeg (a_homeSharers (nI l).toNatClampNeg &&& (((1 : Int32) <<< (nI c &&& 31)) ^^^ (-1))) = upd a_homeSharers l (a_homeSharers l &&& (((1 : Int32) <<< (nI c &&& 31)) ^^^ (-1))) := by rw [hc]
  rw [← hc] at ho
  exact ⟨hi, br_f ho ⟨hi, hi, nm_r e1 (dm_w_post _ _ _ _ _ _ hM K)⟩⟩
theorem dm_w_inv1 {post : SX → Prop} {q M : Nat} {p0 : Int32} (hq : q < 16) (hM : M < 128) (h : a_frameState q = 1) (K : post (f_msgGetS, f_msgGetM, f_msgPut, f_msgDone, f_msgCopyBack, f_msgFwdS, f_msgFwdM, f_msgInv, f_msgAck, f_msgData, f_msgGrant, f_msgPutAck, f_stFree, f_stS, f_stE, f_stM, f_stIS, f_stIM, f_stSM, f_stSI, f_stEI, f_stMI, f_stII, f_coreCount, f_lineCount, f_frameCount, nI (M + 1), f_inType, f_inTo, f_inLine, f_inCore, f_inInfo, f_inAcks, a_opKind, a_opAddress, a_opOperand, a_opResult, a_opPerformed, a_acc, a_closedCount, a_nextVictim, upd a_frameLine q (-1), upd a_frameState q 0, a_frameTarget, upd a_frameAcks q 0, upd a_frameGranted q 0, a_frameWords, a_memory, a_current, a_homeOwner, a_homeSharers, a_homeNextOwner, a_homeNextSharers, a_homeBusy, a_homeAwaits, a_queueHead, a_queueLength, a_queueType, a_queueCore, a_queueInfo, a_queueWords, upd a_msgType M 8, upd a_msgTo M f_inCore, upd a_msgLine M (a_frameLine q), upd a_msgCore M p0, upd a_msgInfo M 0, upd a_msgAcks M 0, a_msgWords, a_inWords)) : wpX_invalidate post (f_msgGetS, f_msgGetM, f_msgPut, f_msgDone, f_msgCopyBack, f_msgFwdS, f_msgFwdM, f_msgInv, f_msgAck, f_msgData, f_msgGrant, f_msgPutAck, f_stFree, f_stS, f_stE, f_stM, f_stIS, f_stIM, f_stSM, f_stSI, f_stEI, f_stMI, f_stII, f_coreCount, f_lineCount, f_frameCount, nI M, f_inType, f_inTo, f_inLine, f_inCore, f_inInfo, f_inAcks, a_opKind, a_opAddress, a_opOperand, a_opResult, a_opPerformed, a_acc, a_closedCount, a_nextVictim, a_frameLine, a_frameState, a_frameTarget, a_frameAcks, a_frameGranted, a_frameWords, a_memory, a_current, a_homeOwner, a_homeSharers, a_homeNextOwner, a_homeNextSharers, a_homeBusy, a_homeAwaits, a_queueHead, a_queueLength, a_queueType, a_queueCore, a_queueInfo, a_queueWords, a_msgType, a_msgTo, a_msgLine, a_msgCore, a_msgInfo, a_msgAcks, a_msgWords, a_inWords) p0 (nI q) := by
  have hi : vp_in (nI q) 16 := vp_in_nI (by omega) (by omega)
  have hc : (nI q).toNatClampNeg = q := nI_clamp (by omega)
  exact ⟨hi, nm_r (congrArg a_frameLine hc) ⟨hi, nm_r (congrArg a_frameState hc) (br_t h (dm_w_rel hq (dm_w_post _ _ _ _ _ _ hM K)))⟩⟩
theorem dm_w_inv6 {post : SX → Prop} {q M : Nat} {p0 : Int32} (hq : q < 16) (hM : M < 128) (h : a_frameState q = 6) (K : post (f_msgGetS, f_msgGetM, f_msgPut, f_msgDone, f_msgCopyBack, f_msgFwdS, f_msgFwdM, f_msgInv, f_msgAck, f_msgData, f_msgGrant, f_msgPutAck, f_stFree, f_stS, f_stE, f_stM, f_stIS, f_stIM, f_stSM, f_stSI, f_stEI, f_stMI, f_stII, f_coreCount, f_lineCount, f_frameCount, nI (M + 1), f_inType, f_inTo, f_inLine, f_inCore, f_inInfo, f_inAcks, a_opKind, a_opAddress, a_opOperand, a_opResult, a_opPerformed, a_acc, a_closedCount, a_nextVictim, a_frameLine, upd a_frameState q 5, a_frameTarget, a_frameAcks, a_frameGranted, a_frameWords, a_memory, a_current, a_homeOwner, a_homeSharers, a_homeNextOwner, a_homeNextSharers, a_homeBusy, a_homeAwaits, a_queueHead, a_queueLength, a_queueType, a_queueCore, a_queueInfo, a_queueWords, upd a_msgType M 8, upd a_msgTo M f_inCore, upd a_msgLine M (a_frameLine q), upd a_msgCore M p0, upd a_msgInfo M 0, upd a_msgAcks M 0, a_msgWords, a_inWords)) : wpX_invalidate post (f_msgGetS, f_msgGetM, f_msgPut, f_msgDone, f_msgCopyBack, f_msgFwdS, f_msgFwdM, f_msgInv, f_msgAck, f_msgData, f_msgGrant, f_msgPutAck, f_stFree, f_stS, f_stE, f_stM, f_stIS, f_stIM, f_stSM, f_stSI, f_stEI, f_stMI, f_stII, f_coreCount, f_lineCount, f_frameCount, nI M, f_inType, f_inTo, f_inLine, f_inCore, f_inInfo, f_inAcks, a_opKind, a_opAddress, a_opOperand, a_opResult, a_opPerformed, a_acc, a_closedCount, a_nextVictim, a_frameLine, a_frameState, a_frameTarget, a_frameAcks, a_frameGranted, a_frameWords, a_memory, a_current, a_homeOwner, a_homeSharers, a_homeNextOwner, a_homeNextSharers, a_homeBusy, a_homeAwaits, a_queueHead, a_queueLength, a_queueType, a_queueCore, a_queueInfo, a_queueWords, a_msgType, a_msgTo, a_msgLine, a_msgCore, a_msgInfo, a_msgAcks, a_msgWords, a_inWords) p0 (nI q) := by
  have hi : vp_in (nI q) 16 := vp_in_nI (by omega) (by omega)
  have hc : (nI q).toNatClampNeg = q := nI_clamp (by omega)
  exact ⟨hi, nm_r (congrArg a_frameLine hc) ⟨hi, nm_r (congrArg a_frameState hc) (br_f (by rw [h]; decide) (br_t h ⟨hi, nm_r (dm_ue hc) (dm_w_post _ _ _ _ _ _ hM K)⟩))⟩⟩
theorem dm_w_inv7 {post : SX → Prop} {q M : Nat} {p0 : Int32} (hq : q < 16) (hM : M < 128) (h : a_frameState q = 7) (K : post (f_msgGetS, f_msgGetM, f_msgPut, f_msgDone, f_msgCopyBack, f_msgFwdS, f_msgFwdM, f_msgInv, f_msgAck, f_msgData, f_msgGrant, f_msgPutAck, f_stFree, f_stS, f_stE, f_stM, f_stIS, f_stIM, f_stSM, f_stSI, f_stEI, f_stMI, f_stII, f_coreCount, f_lineCount, f_frameCount, nI (M + 1), f_inType, f_inTo, f_inLine, f_inCore, f_inInfo, f_inAcks, a_opKind, a_opAddress, a_opOperand, a_opResult, a_opPerformed, a_acc, a_closedCount, a_nextVictim, a_frameLine, upd a_frameState q 10, a_frameTarget, a_frameAcks, a_frameGranted, a_frameWords, a_memory, a_current, a_homeOwner, a_homeSharers, a_homeNextOwner, a_homeNextSharers, a_homeBusy, a_homeAwaits, a_queueHead, a_queueLength, a_queueType, a_queueCore, a_queueInfo, a_queueWords, upd a_msgType M 8, upd a_msgTo M f_inCore, upd a_msgLine M (a_frameLine q), upd a_msgCore M p0, upd a_msgInfo M 0, upd a_msgAcks M 0, a_msgWords, a_inWords)) : wpX_invalidate post (f_msgGetS, f_msgGetM, f_msgPut, f_msgDone, f_msgCopyBack, f_msgFwdS, f_msgFwdM, f_msgInv, f_msgAck, f_msgData, f_msgGrant, f_msgPutAck, f_stFree, f_stS, f_stE, f_stM, f_stIS, f_stIM, f_stSM, f_stSI, f_stEI, f_stMI, f_stII, f_coreCount, f_lineCount, f_frameCount, nI M, f_inType, f_inTo, f_inLine, f_inCore, f_inInfo, f_inAcks, a_opKind, a_opAddress, a_opOperand, a_opResult, a_opPerformed, a_acc, a_closedCount, a_nextVictim, a_frameLine, a_frameState, a_frameTarget, a_frameAcks, a_frameGranted, a_frameWords, a_memory, a_current, a_homeOwner, a_homeSharers, a_homeNextOwner, a_homeNextSharers, a_homeBusy, a_homeAwaits, a_queueHead, a_queueLength, a_queueType, a_queueCore, a_queueInfo, a_queueWords, a_msgType, a_msgTo, a_msgLine, a_msgCore, a_msgInfo, a_msgAcks, a_msgWords, a_inWords) p0 (nI q) := by
  have hi : vp_in (nI q) 16 := vp_in_nI (by omega) (by omega)
  have hc : (nI q).toNatClampNeg = q := nI_clamp (by omega)
  exact ⟨hi, nm_r (congrArg a_frameLine hc) ⟨hi, nm_r (congrArg a_frameState hc) (br_f (by rw [h]; decide) (br_f (by rw [h]; decide) (br_t h ⟨hi, nm_r (dm_ue hc) (dm_w_post _ _ _ _ _ _ hM K)⟩)))⟩⟩
theorem dm_w_leav {post : Int32 → Prop} {q s : Nat} (hq : q < 16) (hs : s ≤ 10) (e : a_frameState q = nI s) (K1 : 7 ≤ s → post 1) (K0 : s < 7 → post 0) : wpX_isLeaving post (f_msgGetS, f_msgGetM, f_msgPut, f_msgDone, f_msgCopyBack, f_msgFwdS, f_msgFwdM, f_msgInv, f_msgAck, f_msgData, f_msgGrant, f_msgPutAck, f_stFree, f_stS, f_stE, f_stM, f_stIS, f_stIM, f_stSM, f_stSI, f_stEI, f_stMI, f_stII, f_coreCount, f_lineCount, f_frameCount, f_msgCount, f_inType, f_inTo, f_inLine, f_inCore, f_inInfo, f_inAcks, a_opKind, a_opAddress, a_opOperand, a_opResult, a_opPerformed, a_acc, a_closedCount, a_nextVictim, a_frameLine, a_frameState, a_frameTarget, a_frameAcks, a_frameGranted, a_frameWords, a_memory, a_current, a_homeOwner, a_homeSharers, a_homeNextOwner, a_homeNextSharers, a_homeBusy, a_homeAwaits, a_queueHead, a_queueLength, a_queueType, a_queueCore, a_queueInfo, a_queueWords, a_msgType, a_msgTo, a_msgLine, a_msgCore, a_msgInfo, a_msgAcks, a_msgWords, a_inWords) (nI q) := by
  have hi : vp_in (nI q) 16 := vp_in_nI (by omega) (by omega)
  have hc : (nI q).toNatClampNeg = q := nI_clamp (by omega)
  exact ⟨hi, nm_r ((congrArg a_frameState hc).trans e) (pk_eq s 7 (fun _ => K1 (by omega)) fun _ => pk_eq s 8 (fun _ => K1 (by omega)) fun _ => pk_eq s 9 (fun _ => K1 (by omega)) fun _ => pk_eq s 10 (fun _ => K1 (by omega)) fun _ => K0 (by omega))⟩
theorem dm_w_stab {post : Int32 → Prop} {q s : Nat} (hq : q < 16) (hs : s ≤ 10) (e : a_frameState q = nI s) (K1 : 1 ≤ s → s ≤ 3 → post 1) (K0 : ¬ (1 ≤ s ∧ s ≤ 3) → post 0) : wpX_isStable post (f_msgGetS, f_msgGetM, f_msgPut, f_msgDone, f_msgCopyBack, f_msgFwdS, f_msgFwdM, f_msgInv, f_msgAck, f_msgData, f_msgGrant, f_msgPutAck, f_stFree, f_stS, f_stE, f_stM, f_stIS, f_stIM, f_stSM, f_stSI, f_stEI, f_stMI, f_stII, f_coreCount, f_lineCount, f_frameCount, f_msgCount, f_inType, f_inTo, f_inLine, f_inCore, f_inInfo, f_inAcks, a_opKind, a_opAddress, a_opOperand, a_opResult, a_opPerformed, a_acc, a_closedCount, a_nextVictim, a_frameLine, a_frameState, a_frameTarget, a_frameAcks, a_frameGranted, a_frameWords, a_memory, a_current, a_homeOwner, a_homeSharers, a_homeNextOwner, a_homeNextSharers, a_homeBusy, a_homeAwaits, a_queueHead, a_queueLength, a_queueType, a_queueCore, a_queueInfo, a_queueWords, a_msgType, a_msgTo, a_msgLine, a_msgCore, a_msgInfo, a_msgAcks, a_msgWords, a_inWords) (nI q) := by
  have hi : vp_in (nI q) 16 := vp_in_nI (by omega) (by omega)
  have hc : (nI q).toNatClampNeg = q := nI_clamp (by omega)
  exact ⟨hi, nm_r ((congrArg a_frameState hc).trans e) (pk_eq s 1 (fun _ => K1 (by omega) (by omega)) fun _ => pk_eq s 2 (fun _ => K1 (by omega) (by omega)) fun _ => pk_eq s 3 (fun _ => K1 (by omega) (by omega)) fun _ => K0 (by omega))⟩
theorem dm_w_all0 {post : Int32 → Prop} {q s : Nat} (hq : q < 16) (hs : s ≤ 10) (e : a_frameState q = nI s) (K1 : s = 1 ∨ s = 2 ∨ s = 3 ∨ s = 6 → post 1) (K0 : ¬ (s = 1 ∨ s = 2 ∨ s = 3 ∨ s = 6) → post 0) : wpX_allows post (f_msgGetS, f_msgGetM, f_msgPut, f_msgDone, f_msgCopyBack, f_msgFwdS, f_msgFwdM, f_msgInv, f_msgAck, f_msgData, f_msgGrant, f_msgPutAck, f_stFree, f_stS, f_stE, f_stM, f_stIS, f_stIM, f_stSM, f_stSI, f_stEI, f_stMI, f_stII, f_coreCount, f_lineCount, f_frameCount, f_msgCount, f_inType, f_inTo, f_inLine, f_inCore, f_inInfo, f_inAcks, a_opKind, a_opAddress, a_opOperand, a_opResult, a_opPerformed, a_acc, a_closedCount, a_nextVictim, a_frameLine, a_frameState, a_frameTarget, a_frameAcks, a_frameGranted, a_frameWords, a_memory, a_current, a_homeOwner, a_homeSharers, a_homeNextOwner, a_homeNextSharers, a_homeBusy, a_homeAwaits, a_queueHead, a_queueLength, a_queueType, a_queueCore, a_queueInfo, a_queueWords, a_msgType, a_msgTo, a_msgLine, a_msgCore, a_msgInfo, a_msgAcks, a_msgWords, a_inWords) (nI q) 0 := by
  have hi : vp_in (nI q) 16 := vp_in_nI (by omega) (by omega)
  have hc : (nI q).toNatClampNeg = q := nI_clamp (by omega)
  exact ⟨hi, nm_r ((congrArg a_frameState hc).trans e) (pk_eq s 2 (fun _ => K1 (by omega)) fun _ => pk_eq s 3 (fun _ => K1 (by omega)) fun _ => br_t rfl (pk_eq s 1 (fun _ => K1 (by omega)) fun _ => pk_eq s 6 (fun _ => K1 (by omega)) fun _ => K0 (by omega)))⟩
theorem dm_w_all1 {post : Int32 → Prop} {q s : Nat} {p : Int32} (hq : q < 16) (hs : s ≤ 10) (hp : ¬ p = 0) (e : a_frameState q = nI s) (K1 : s = 2 ∨ s = 3 → post 1) (K0 : ¬ (s = 2 ∨ s = 3) → post 0) : wpX_allows post (f_msgGetS, f_msgGetM, f_msgPut, f_msgDone, f_msgCopyBack, f_msgFwdS, f_msgFwdM, f_msgInv, f_msgAck, f_msgData, f_msgGrant, f_msgPutAck, f_stFree, f_stS, f_stE, f_stM, f_stIS, f_stIM, f_stSM, f_stSI, f_stEI, f_stMI, f_stII, f_coreCount, f_lineCount, f_frameCount, f_msgCount, f_inType, f_inTo, f_inLine, f_inCore, f_inInfo, f_inAcks, a_opKind, a_opAddress, a_opOperand, a_opResult, a_opPerformed, a_acc, a_closedCount, a_nextVictim, a_frameLine, a_frameState, a_frameTarget, a_frameAcks, a_frameGranted, a_frameWords, a_memory, a_current, a_homeOwner, a_homeSharers, a_homeNextOwner, a_homeNextSharers, a_homeBusy, a_homeAwaits, a_queueHead, a_queueLength, a_queueType, a_queueCore, a_queueInfo, a_queueWords, a_msgType, a_msgTo, a_msgLine, a_msgCore, a_msgInfo, a_msgAcks, a_msgWords, a_inWords) (nI q) p := by
  have hi : vp_in (nI q) 16 := vp_in_nI (by omega) (by omega)
  have hc : (nI q).toNatClampNeg = q := nI_clamp (by omega)
  exact ⟨hi, nm_r ((congrArg a_frameState hc).trans e) (pk_eq s 2 (fun _ => K1 (by omega)) fun _ => pk_eq s 3 (fun _ => K1 (by omega)) fun _ => br_f hp (K0 (by omega)))⟩
end
end
section
section
variable {f_msgGetS f_msgGetM f_msgPut f_msgDone f_msgCopyBack f_msgFwdS f_msgFwdM f_msgInv f_msgAck f_msgData f_msgGrant f_msgPutAck f_stFree f_stS f_stE f_stM f_stIS f_stIM f_stSM f_stSI f_stEI f_stMI f_stII f_coreCount f_lineCount f_frameCount f_msgCount f_inType f_inTo f_inLine f_inCore f_inInfo f_inAcks : Int32} {a_opKind a_opAddress a_opOperand a_opResult a_opPerformed a_acc a_closedCount a_nextVictim a_frameLine a_frameState a_frameTarget a_frameAcks a_frameGranted a_frameWords a_memory a_current a_homeOwner a_homeSharers a_homeNextOwner a_homeNextSharers a_homeBusy a_homeAwaits a_queueHead a_queueLength a_queueType a_queueCore a_queueInfo a_queueWords a_msgType a_msgTo a_msgLine a_msgCore a_msgInfo a_msgAcks a_msgWords a_inWords : Nat → Int32}
theorem dm_w_pshr {post : SX → Prop} {q M s : Nat} {p0 : Int32} (hq : q < 16) (hM : M + 1 < 128) (hs : s ≤ 10) (e : a_frameState q = nI s) (K : post (f_msgGetS, f_msgGetM, f_msgPut, f_msgDone, f_msgCopyBack, f_msgFwdS, f_msgFwdM, f_msgInv, f_msgAck, f_msgData, f_msgGrant, f_msgPutAck, f_stFree, f_stS, f_stE, f_stM, f_stIS, f_stIM, f_stSM, f_stSI, f_stEI, f_stMI, f_stII, f_coreCount, f_lineCount, f_frameCount, nI (M + 1 + 1), f_inType, f_inTo, f_inLine, f_inCore, f_inInfo, f_inAcks, a_opKind, a_opAddress, a_opOperand, a_opResult, a_opPerformed, a_acc, a_closedCount, a_nextVictim, a_frameLine, upd a_frameState q (if 7 ≤ s then 7 else 1), a_frameTarget, a_frameAcks, a_frameGranted, a_frameWords, a_memory, a_current, a_homeOwner, a_homeSharers, a_homeNextOwner, a_homeNextSharers, a_homeBusy, a_homeAwaits, a_queueHead, a_queueLength, a_queueType, a_queueCore, a_queueInfo, a_queueWords, upd (upd a_msgType M 9) (M + 1) 4, upd (upd a_msgTo M f_inCore) (M + 1) 4, upd (upd a_msgLine M (a_frameLine q)) (M + 1) (a_frameLine q), upd (upd a_msgCore M p0) (M + 1) p0, upd (upd a_msgInfo M 1) (M + 1) 0, upd (upd a_msgAcks M 0) (M + 1) 0, dm_cp (dm_cp a_msgWords (4 * M) a_frameWords (4 * q) 4) (4 * (M + 1)) a_frameWords (4 * q) 4, a_inWords)) : wpX_passShared post (f_msgGetS, f_msgGetM, f_msgPut, f_msgDone, f_msgCopyBack, f_msgFwdS, f_msgFwdM, f_msgInv, f_msgAck, f_msgData, f_msgGrant, f_msgPutAck, f_stFree, f_stS, f_stE, f_stM, f_stIS, f_stIM, f_stSM, f_stSI, f_stEI, f_stMI, f_stII, f_coreCount, f_lineCount, f_frameCount, nI M, f_inType, f_inTo, f_inLine, f_inCore, f_inInfo, f_inAcks, a_opKind, a_opAddress, a_opOperand, a_opResult, a_opPerformed, a_acc, a_closedCount, a_nextVictim, a_frameLine, a_frameState, a_frameTarget, a_frameAcks, a_frameGranted, a_frameWords, a_memory, a_current, a_homeOwner, a_homeSharers, a_homeNextOwner, a_homeNextSharers, a_homeBusy, a_homeAwaits, a_queueHead, a_queueLength, a_queueType, a_queueCore, a_queueInfo, a_queueWords, a_msgType, a_msgTo, a_msgLine, a_msgCore, a_msgInfo, a_msgAcks, a_msgWords, a_inWords) p0 (nI q) := by
  have hi : vp_in (nI q) 16 := vp_in_nI (by omega) (by omega)
  have hc : (nI q).toNatClampNeg = q := nI_clamp (by omega)
  refine ⟨hi, nm_r (congrArg a_frameLine hc) (dm_w_post _ _ _ _ _ _ (by omega) (dm_w_attF (by omega) hq (dm_w_post _ _ _ _ _ _ hM (dm_w_attF hM hq (dm_w_leav hq hs e (fun h => ?_) (fun h => ?_))))))⟩
  · rw [if_pos h] at K
    exact br_f (by decide) ⟨hi, nm_r (dm_ue hc) K⟩
  · rw [if_neg (by omega)] at K
    exact br_t rfl ⟨hi, nm_r (dm_ue hc) K⟩
theorem dm_w_pown33 {post : SX → Prop} {q M s : Nat} {p0 x3 z : Int32} (hq : q < 16) (hM : M < 128) (hs : s ≤ 10) (e : a_frameState q = nI s)
    (K1 : 7 ≤ s → post (f_msgGetS, f_msgGetM, f_msgPut, f_msgDone, f_msgCopyBack, f_msgFwdS, f_msgFwdM, f_msgInv, f_msgAck, f_msgData, f_msgGrant, f_msgPutAck, f_stFree, f_stS, f_stE, f_stM, f_stIS, f_stIM, f_stSM, f_stSI, f_stEI, f_stMI, f_stII, f_coreCount, f_lineCount, f_frameCount, nI (M + 1), f_inType, f_inTo, f_inLine, f_inCore, f_inInfo, f_inAcks, a_opKind, a_opAddress, a_opOperand, a_opResult, a_opPerformed, a_acc, a_closedCount, a_nextVictim, a_frameLine, upd a_frameState q 10, a_frameTarget, a_frameAcks, a_frameGranted, a_frameWords, a_memory, a_current, a_homeOwner, a_homeSharers, a_homeNextOwner, a_homeNextSharers, a_homeBusy, a_homeAwaits, a_queueHead, a_queueLength, a_queueType, a_queueCore, a_queueInfo, a_queueWords, upd a_msgType M 9, upd a_msgTo M f_inCore, upd a_msgLine M x3, upd a_msgCore M p0, upd a_msgInfo M z, upd a_msgAcks M 0, dm_cp a_msgWords (4 * M) a_frameWords (4 * q) 4, a_inWords))
    (K0 : s < 7 → post (f_msgGetS, f_msgGetM, f_msgPut, f_msgDone, f_msgCopyBack, f_msgFwdS, f_msgFwdM, f_msgInv, f_msgAck, f_msgData, f_msgGrant, f_msgPutAck, f_stFree, f_stS, f_stE, f_stM, f_stIS, f_stIM, f_stSM, f_stSI, f_stEI, f_stMI, f_stII, f_coreCount, f_lineCount, f_frameCount, nI (M + 1), f_inType, f_inTo, f_inLine, f_inCore, f_inInfo, f_inAcks, a_opKind, a_opAddress, a_opOperand, a_opResult, a_opPerformed, a_acc, a_closedCount, a_nextVictim, upd a_frameLine q (-1), upd a_frameState q 0, a_frameTarget, upd a_frameAcks q 0, upd a_frameGranted q 0, a_frameWords, a_memory, a_current, a_homeOwner, a_homeSharers, a_homeNextOwner, a_homeNextSharers, a_homeBusy, a_homeAwaits, a_queueHead, a_queueLength, a_queueType, a_queueCore, a_queueInfo, a_queueWords, upd a_msgType M 9, upd a_msgTo M f_inCore, upd a_msgLine M x3, upd a_msgCore M p0, upd a_msgInfo M z, upd a_msgAcks M 0, dm_cp a_msgWords (4 * M) a_frameWords (4 * q) 4, a_inWords)) : wX_passOwnership_33 post p0 (nI q) x3 z f_msgGetS f_msgGetM f_msgPut f_msgDone f_msgCopyBack f_msgFwdS f_msgFwdM f_msgInv f_msgAck f_msgData f_msgGrant f_msgPutAck f_stFree f_stS f_stE f_stM f_stIS f_stIM f_stSM f_stSI f_stEI f_stMI f_stII f_coreCount f_lineCount f_frameCount (nI M) f_inType f_inTo f_inLine f_inCore f_inInfo f_inAcks a_opKind a_opAddress a_opOperand a_opResult a_opPerformed a_acc a_closedCount a_nextVictim a_frameLine a_frameState a_frameTarget a_frameAcks a_frameGranted a_frameWords a_memory a_current a_homeOwner a_homeSharers a_homeNextOwner a_homeNextSharers a_homeBusy a_homeAwaits a_queueHead a_queueLength a_queueType a_queueCore a_queueInfo a_queueWords a_msgType a_msgTo a_msgLine a_msgCore a_msgInfo a_msgAcks a_msgWords a_inWords := by
  have hi : vp_in (nI q) 16 := vp_in_nI (by omega) (by omega)
  have hc : (nI q).toNatClampNeg = q := nI_clamp (by omega)
  unfold wX_passOwnership_33
  refine dm_w_post _ _ _ _ _ _ (by omega) (dm_w_attF (by omega) hq (dm_w_leav hq hs e (fun h => ?_) (fun h => ?_)))
  · exact br_f (by decide) ⟨hi, nm_r (dm_ue hc) (K1 h)⟩
  · exact br_t rfl (dm_w_rel hq (K0 h))
theorem dm_w_pown {post : SX → Prop} {q M s : Nat} {p0 : Int32} (hq : q < 16) (hM : M < 128) (hs : s ≤ 10) (e : a_frameState q = nI s)
    (K1 : 7 ≤ s → post (f_msgGetS, f_msgGetM, f_msgPut, f_msgDone, f_msgCopyBack, f_msgFwdS, f_msgFwdM, f_msgInv, f_msgAck, f_msgData, f_msgGrant, f_msgPutAck, f_stFree, f_stS, f_stE, f_stM, f_stIS, f_stIM, f_stSM, f_stSI, f_stEI, f_stMI, f_stII, f_coreCount, f_lineCount, f_frameCount, nI (M + 1), f_inType, f_inTo, f_inLine, f_inCore, f_inInfo, f_inAcks, a_opKind, a_opAddress, a_opOperand, a_opResult, a_opPerformed, a_acc, a_closedCount, a_nextVictim, a_frameLine, upd a_frameState q 10, a_frameTarget, a_frameAcks, a_frameGranted, a_frameWords, a_memory, a_current, a_homeOwner, a_homeSharers, a_homeNextOwner, a_homeNextSharers, a_homeBusy, a_homeAwaits, a_queueHead, a_queueLength, a_queueType, a_queueCore, a_queueInfo, a_queueWords, upd a_msgType M 9, upd a_msgTo M f_inCore, upd a_msgLine M (a_frameLine q), upd a_msgCore M p0, upd a_msgInfo M (if s = 3 ∨ s = 9 then 3 else 2), upd a_msgAcks M 0, dm_cp a_msgWords (4 * M) a_frameWords (4 * q) 4, a_inWords))
    (K0 : s < 7 → post (f_msgGetS, f_msgGetM, f_msgPut, f_msgDone, f_msgCopyBack, f_msgFwdS, f_msgFwdM, f_msgInv, f_msgAck, f_msgData, f_msgGrant, f_msgPutAck, f_stFree, f_stS, f_stE, f_stM, f_stIS, f_stIM, f_stSM, f_stSI, f_stEI, f_stMI, f_stII, f_coreCount, f_lineCount, f_frameCount, nI (M + 1), f_inType, f_inTo, f_inLine, f_inCore, f_inInfo, f_inAcks, a_opKind, a_opAddress, a_opOperand, a_opResult, a_opPerformed, a_acc, a_closedCount, a_nextVictim, upd a_frameLine q (-1), upd a_frameState q 0, a_frameTarget, upd a_frameAcks q 0, upd a_frameGranted q 0, a_frameWords, a_memory, a_current, a_homeOwner, a_homeSharers, a_homeNextOwner, a_homeNextSharers, a_homeBusy, a_homeAwaits, a_queueHead, a_queueLength, a_queueType, a_queueCore, a_queueInfo, a_queueWords, upd a_msgType M 9, upd a_msgTo M f_inCore, upd a_msgLine M (a_frameLine q), upd a_msgCore M p0, upd a_msgInfo M (if s = 3 ∨ s = 9 then 3 else 2), upd a_msgAcks M 0, dm_cp a_msgWords (4 * M) a_frameWords (4 * q) 4, a_inWords)) : wpX_passOwnership post (f_msgGetS, f_msgGetM, f_msgPut, f_msgDone, f_msgCopyBack, f_msgFwdS, f_msgFwdM, f_msgInv, f_msgAck, f_msgData, f_msgGrant, f_msgPutAck, f_stFree, f_stS, f_stE, f_stM, f_stIS, f_stIM, f_stSM, f_stSI, f_stEI, f_stMI, f_stII, f_coreCount, f_lineCount, f_frameCount, nI M, f_inType, f_inTo, f_inLine, f_inCore, f_inInfo, f_inAcks, a_opKind, a_opAddress, a_opOperand, a_opResult, a_opPerformed, a_acc, a_closedCount, a_nextVictim, a_frameLine, a_frameState, a_frameTarget, a_frameAcks, a_frameGranted, a_frameWords, a_memory, a_current, a_homeOwner, a_homeSharers, a_homeNextOwner, a_homeNextSharers, a_homeBusy, a_homeAwaits, a_queueHead, a_queueLength, a_queueType, a_queueCore, a_queueInfo, a_queueWords, a_msgType, a_msgTo, a_msgLine, a_msgCore, a_msgInfo, a_msgAcks, a_msgWords, a_inWords) p0 (nI q) := by
  have hi : vp_in (nI q) 16 := vp_in_nI (by omega) (by omega)
  have hc : (nI q).toNatClampNeg = q := nI_clamp (by omega)
  refine ⟨hi, nm_r (congrArg a_frameLine hc) ⟨hi, nm_r ((congrArg a_frameState hc).trans e) (pk_eq s 3 (fun h => ?_) fun h => pk_eq s 9 (fun h2 => ?_) fun h2 => ?_)⟩⟩
  · rw [if_pos (Or.inl h)] at K1 K0
    exact dm_w_pown33 hq hM hs e K1 K0
  · rw [if_pos (Or.inr h2)] at K1 K0
    exact dm_w_pown33 hq hM hs e K1 K0
  · rw [if_neg (by omega)] at K1 K0
    exact dm_w_pown33 hq hM hs e K1 K0
theorem dm_upd_id {f : Nat → Int32} {i : Nat} : upd f i (f i) = f := by
  funext j; by_cases h : j = i
  · subst h; exact pk_us
  · exact pk_un h
theorem dm_w_perf159 {post : SX → Prop} {c q kd : Nat} {x7 : Int32} (hc4 : c < 4) (hq : q < 16) (hk : kd ≤ 5) (K : post (f_msgGetS, f_msgGetM, f_msgPut, f_msgDone, f_msgCopyBack, f_msgFwdS, f_msgFwdM, f_msgInv, f_msgAck, f_msgData, f_msgGrant, f_msgPutAck, f_stFree, f_stS, f_stE, f_stM, f_stIS, f_stIM, f_stSM, f_stSI, f_stEI, f_stMI, f_stII, f_coreCount, f_lineCount, f_frameCount, f_msgCount, f_inType, f_inTo, f_inLine, f_inCore, f_inInfo, f_inAcks, a_opKind, a_opAddress, a_opOperand, upd a_opResult c x7, upd a_opPerformed c 1, a_acc, a_closedCount, a_nextVictim, a_frameLine, if kd = 0 then a_frameState else upd a_frameState q 3, a_frameTarget, a_frameAcks, a_frameGranted, a_frameWords, a_memory, a_current, a_homeOwner, a_homeSharers, a_homeNextOwner, a_homeNextSharers, a_homeBusy, a_homeAwaits, a_queueHead, a_queueLength, a_queueType, a_queueCore, a_queueInfo, a_queueWords, a_msgType, a_msgTo, a_msgLine, a_msgCore, a_msgInfo, a_msgAcks, a_msgWords, a_inWords)) : wX_perform_159 post (nI c) (nI q) (nI kd) x7 f_msgGetS f_msgGetM f_msgPut f_msgDone f_msgCopyBack f_msgFwdS f_msgFwdM f_msgInv f_msgAck f_msgData f_msgGrant f_msgPutAck f_stFree f_stS f_stE f_stM f_stIS f_stIM f_stSM f_stSI f_stEI f_stMI f_stII f_coreCount f_lineCount f_frameCount f_msgCount f_inType f_inTo f_inLine f_inCore f_inInfo f_inAcks a_opKind a_opAddress a_opOperand a_opResult a_opPerformed a_acc a_closedCount a_nextVictim a_frameLine a_frameState a_frameTarget a_frameAcks a_frameGranted a_frameWords a_memory a_current a_homeOwner a_homeSharers a_homeNextOwner a_homeNextSharers a_homeBusy a_homeAwaits a_queueHead a_queueLength a_queueType a_queueCore a_queueInfo a_queueWords a_msgType a_msgTo a_msgLine a_msgCore a_msgInfo a_msgAcks a_msgWords a_inWords := by
  have hi : vp_in (nI c) 4 := vp_in_nI (by omega) (by omega)
  have hc : (nI c).toNatClampNeg = c := nI_clamp (by omega)
  have hiq : vp_in (nI q) 16 := vp_in_nI (by omega) (by omega)
  have hcq : (nI q).toNatClampNeg = q := nI_clamp (by omega)
  refine pk_eq kd 0 (fun h => ?_) (fun h => ?_)
  · rw [if_pos h] at K
    exact ⟨hi, nm_r (dm_ue hc) ⟨hi, nm_r (dm_ub1 hc) K⟩⟩
  · rw [if_neg h] at K
    exact ⟨hiq, nm_r (dm_ue hcq) ⟨hi, nm_r (dm_ue hc) ⟨hi, nm_r (dm_ub1 hc) K⟩⟩⟩
theorem dm_w_perf {post : SX → Prop} {c q kd a j : Nat} (hc4 : c < 4) (hq : q < 16) (hk : kd ≤ 5) (ha : a < 32) (ek : a_opKind c = nI kd) (ea : a_opAddress c = nI a) (ej : j = 4 * q + a % 4)
    (K : post (f_msgGetS, f_msgGetM, f_msgPut, f_msgDone, f_msgCopyBack, f_msgFwdS, f_msgFwdM, f_msgInv, f_msgAck, f_msgData, f_msgGrant, f_msgPutAck, f_stFree, f_stS, f_stE, f_stM, f_stIS, f_stIM, f_stSM, f_stSI, f_stEI, f_stMI, f_stII, f_coreCount, f_lineCount, f_frameCount, f_msgCount, f_inType, f_inTo, f_inLine, f_inCore, f_inInfo, f_inAcks, a_opKind, a_opAddress, a_opOperand, upd a_opResult c (dm_res kd (a_opOperand c) (a_frameWords j)), upd a_opPerformed c 1, a_acc, a_closedCount, a_nextVictim, a_frameLine, if kd = 0 then a_frameState else upd a_frameState q 3, a_frameTarget, a_frameAcks, a_frameGranted, upd a_frameWords j (dm_app kd (a_opOperand c) (a_acc c) (a_frameWords j)), a_memory, a_current, a_homeOwner, a_homeSharers, a_homeNextOwner, a_homeNextSharers, a_homeBusy, a_homeAwaits, a_queueHead, a_queueLength, a_queueType, a_queueCore, a_queueInfo, a_queueWords, a_msgType, a_msgTo, a_msgLine, a_msgCore, a_msgInfo, a_msgAcks, a_msgWords, a_inWords)) : wpX_perform post (f_msgGetS, f_msgGetM, f_msgPut, f_msgDone, f_msgCopyBack, f_msgFwdS, f_msgFwdM, f_msgInv, f_msgAck, f_msgData, f_msgGrant, f_msgPutAck, f_stFree, f_stS, f_stE, f_stM, f_stIS, f_stIM, f_stSM, f_stSI, f_stEI, f_stMI, f_stII, f_coreCount, f_lineCount, f_frameCount, f_msgCount, f_inType, f_inTo, f_inLine, f_inCore, f_inInfo, f_inAcks, a_opKind, a_opAddress, a_opOperand, a_opResult, a_opPerformed, a_acc, a_closedCount, a_nextVictim, a_frameLine, a_frameState, a_frameTarget, a_frameAcks, a_frameGranted, a_frameWords, a_memory, a_current, a_homeOwner, a_homeSharers, a_homeNextOwner, a_homeNextSharers, a_homeBusy, a_homeAwaits, a_queueHead, a_queueLength, a_queueType, a_queueCore, a_queueInfo, a_queueWords, a_msgType, a_msgTo, a_msgLine, a_msgCore, a_msgInfo, a_msgAcks, a_msgWords, a_inWords) (nI c) (nI q) := by
  have hi : vp_in (nI c) 4 := vp_in_nI (by omega) (by omega)
  have hc : (nI c).toNatClampNeg = c := nI_clamp (by omega)
  have e1 : nI q * 4 + (a_opAddress (nI c).toNatClampNeg - a_opAddress (nI c).toNatClampNeg / 4 * 4) = nI j := by
    rw [hc, ea, show (4 : Int32) = nI 4 from rfl, pk_rem (a := a) (d := 4) (by omega) (by omega) (by omega), pk_mul, nI_add, ej, Nat.mul_comm]
  have hij : vp_in (nI j) 64 := vp_in_nI (by omega) (by omega)
  have hcj : (nI j).toNatClampNeg = j := nI_clamp (by omega)
  refine ⟨hi, by decide, nm_r e1 ⟨hi, nm_r ((congrArg a_opKind hc).trans ek) ⟨hi, nm_r (congrArg a_opOperand hc) ⟨hij, nm_r (congrArg a_frameWords hcj) ?_⟩⟩⟩⟩
  refine pk_eq kd 1 (fun h => ?_) fun h1 => pk_eq kd 2 (fun h => ?_) fun h2 => pk_eq kd 3 (fun h => ?_) fun h3 => pk_eq kd 4 (fun h => ?_) fun h4 => pk_eq kd 5 (fun h => ?_) fun h5 => ?_
  · refine ⟨hij, nm_r (dm_ue hcj) (dm_w_perf159 hc4 hq hk ?_)⟩
    subst h; exact K
  · refine ⟨hij, nm_r (dm_ue hcj) (dm_w_perf159 hc4 hq hk ?_)⟩
    subst h; exact K
  · refine br_c (fun g => dm_w_perf159 hc4 hq hk ?_) (fun g => ⟨hij, nm_r (dm_ue hcj) (dm_w_perf159 hc4 hq hk ?_)⟩)
    · subst h
      have e : dm_app 3 (a_opOperand c) (a_acc c) (a_frameWords j) = a_frameWords j := by
        rw [dm_app3, if_neg (Int32.not_lt.mpr g)]
      rw [e, dm_upd_id] at K; exact K
    · subst h
      have e : dm_app 3 (a_opOperand c) (a_acc c) (a_frameWords j) = a_opOperand c := by
        rw [dm_app3, if_pos (Int32.not_le.mp g)]
      rw [e] at K; exact K
  · refine ⟨hij, nm_r (dm_ue hcj) (dm_w_perf159 hc4 hq hk ?_)⟩
    subst h; exact K
  · refine ⟨hi, br_c (fun g => ⟨hij, nm_r (dm_ue hcj) (dm_w_perf159 hc4 hq hk ?_)⟩) (fun g => dm_w_perf159 hc4 hq hk ?_)⟩
    · subst h
      rw [hc] at g
      have e : dm_app 5 (a_opOperand c) (a_acc c) (a_frameWords j) = a_opOperand c := by
        rw [dm_app5, if_pos g]
      rw [e] at K; exact K
    · subst h
      rw [hc] at g
      have e : dm_app 5 (a_opOperand c) (a_acc c) (a_frameWords j) = a_frameWords j := by
        rw [dm_app5, if_neg g]
      rw [e, dm_upd_id] at K; exact K
  · have e : dm_app kd (a_opOperand c) (a_acc c) (a_frameWords j) = a_frameWords j := by
      simp only [dm_app]; rw [if_neg h1, if_neg h2, if_neg h3, if_neg h4, if_neg h5]
    have e2 : dm_res kd (a_opOperand c) (a_frameWords j) = a_frameWords j := by
      simp only [dm_res]; rw [if_neg (by omega)]
    rw [e, e2, dm_upd_id] at K
    exact dm_w_perf159 hc4 hq hk K
end
end
section
/-! how many messages, how much work -/
section
variable {k gr d nd : Nat → Nat} {ac : Nat → Int} {aw : Nat} {n nq : Nat → Nat → Nat} {R dI dA cu : Nat}
theorem dm_w1_le (x : Nat) : dm_w0 x + dm_w1 x + dm_w2 x + dm_w3 x ≤ 1 := by
  simp only [dm_w0, dm_w1, dm_w2, dm_w3]; split <;> split <;> split <;> split <;> omega
theorem dm_t2_le (x : Nat) : dm_t2 x ≤ 1 := by rw [dm_t2]; split <;> omega
theorem dm_core_le (h : dm_L0 k gr ac d nd aw n nq R dI dA cu) : ∀ e, e < 4 → n 0 e + nq 0 e + n 1 e + nq 1 e + n 2 e + nq 2 e + n 11 e ≤ 1 ∧ n 7 e + n 8 e ≤ 1 := by
  intro e he
  obtain ⟨x1, x2, x3, x4, x5, x6, x7, x8, x9, x10, x11, x12⟩ := h.1 e he
  have := dm_w1_le (k e)
  omega
theorem dm_tot_le (h : dm_L0 k gr ac d nd aw n nq R dI dA cu) : dm_tot n ≤ 10 := by
  have c0 := dm_core_le h 0 (by omega)
  have c1 := dm_core_le h 1 (by omega)
  have c2 := dm_core_le h 2 (by omega)
  have c3 := dm_core_le h 3 (by omega)
  have hT := h.2.1
  simp only [dm_LT] at hT
  obtain ⟨t1, t2, t3, t4, _⟩ := hT
  simp only [dm_tot]
  have r : dm_s4 (n 0) + dm_s4 (n 1) + dm_s4 (n 2) + dm_s4 (n 11) ≤ 4 := by simp only [dm_s4]; omega
  have s : dm_s4 (n 7) + dm_s4 (n 8) ≤ 4 := by simp only [dm_s4]; omega
  clear c0 c1 c2 c3
  omega
theorem dm_phi_le (h : dm_L0 k gr ac d nd aw n nq R dI dA cu) : dm_phi n nq gr ≤ 60 := by
  have c0 := dm_core_le h 0 (by omega)
  have c1 := dm_core_le h 1 (by omega)
  have c2 := dm_core_le h 2 (by omega)
  have c3 := dm_core_le h 3 (by omega)
  have hT := h.2.1
  simp only [dm_LT] at hT
  obtain ⟨t1, t2, t3, t4, _⟩ := hT
  simp only [dm_phi]
  have r : dm_s4 (n 0) + dm_s4 (nq 0) + dm_s4 (n 1) + dm_s4 (nq 1) + dm_s4 (n 2) + dm_s4 (nq 2) + dm_s4 (n 11) ≤ 4 := by simp only [dm_s4]; omega
  have s : dm_s4 (n 7) + dm_s4 (n 8) ≤ 4 := by simp only [dm_s4]; omega
  clear c0 c1 c2 c3
  omega
end
theorem dm_M_le {k gr d nd : Nat → Nat → Nat} {ac : Nat → Nat → Int} {aw R dI dA cu : Nat → Nat} {n nq : Nat → Nat → Nat → Nat} (h : dm_LL 8 k gr ac d nd aw n nq R dI dA cu) : dm_s8 (fun l => dm_tot (n l)) ≤ 80 := by
  simp only [dm_s8]
  have h0 := dm_tot_le (h 0 (by omega)).1
  have h1 := dm_tot_le (h 1 (by omega)).1
  have h2 := dm_tot_le (h 2 (by omega)).1
  have h3 := dm_tot_le (h 3 (by omega)).1
  have h4 := dm_tot_le (h 4 (by omega)).1
  have h5 := dm_tot_le (h 5 (by omega)).1
  have h6 := dm_tot_le (h 6 (by omega)).1
  have h7 := dm_tot_le (h 7 (by omega)).1
  omega
theorem dm_Phi_le {k gr d nd : Nat → Nat → Nat} {ac : Nat → Nat → Int} {aw R dI dA cu : Nat → Nat} {n nq : Nat → Nat → Nat → Nat} (h : dm_LL 8 k gr ac d nd aw n nq R dI dA cu) : dm_Phi n nq gr ≤ 480 := by
  simp only [dm_Phi, dm_s8]
  have h0 := dm_phi_le (h 0 (by omega)).1
  have h1 := dm_phi_le (h 1 (by omega)).1
  have h2 := dm_phi_le (h 2 (by omega)).1
  have h3 := dm_phi_le (h 3 (by omega)).1
  have h4 := dm_phi_le (h 4 (by omega)).1
  have h5 := dm_phi_le (h 5 (by omega)).1
  have h6 := dm_phi_le (h 6 (by omega)).1
  have h7 := dm_phi_le (h 7 (by omega)).1
  omega
theorem dm_Psi_le {oc ok oa pf : Nat → Nat} {k : Nat → Nat → Nat} : dm_s4 (dm_Psi oc ok oa pf k) ≤ 44 := by
  have q : ∀ c, dm_Psi oc ok oa pf k c ≤ 11 := fun c => by
    simp only [dm_Psi, dm_psi]; split <;> (try split) <;> (try split) <;> omega
  simp only [dm_s4]
  have := q 0
  have := q 1
  have := q 2
  have := q 3
  omega
end
section
def dm_gn (x : Nat) : Prop := x = 0 ∨ dm_lv x = 1
/-- the budget of pursue -/
def dm_PB (fc : Nat) (oc ok oa pf : Nat → Nat) (k : Nat → Nat → Nat) (FL : Nat → Int32) (c b : Nat) : Prop :=
  oc c = 1 → pf c = 0 → (k (oa c / 4) c = 0 → 9 ≤ b) ∧ (k (oa c / 4) c = 0 → (∀ f, f < fc → FL (4 * c + f) ≠ -1) → dm_s8 (fun l => dm_lv (k l c)) = 0 → 11 ≤ b) ∧
    (k (oa c / 4) c = 1 → ok c ≠ 0 → 9 ≤ b) ∧ (k (oa c / 4) c = 4 ∨ k (oa c / 4) c = 11 → ok c ≠ 0 → 9 ≤ b) ∧ (dm_lv (k (oa c / 4) c) = 1 → 9 ≤ b)
def dm_IB (cc lc fc : Nat) (oc ok oa cu : Nat → Nat) (val y_acc y_opn y_fin y_cur : Nat → Int32) (gl N : Nat) (u : SX) : Prop := match u with
  | (f_msgGetS, f_msgGetM, f_msgPut, f_msgDone, f_msgCopyBack, f_msgFwdS, f_msgFwdM, f_msgInv, f_msgAck, f_msgData, f_msgGrant, f_msgPutAck, f_stFree, f_stS, f_stE, f_stM, f_stIS, f_stIM, f_stSM, f_stSI, f_stEI, f_stMI, f_stII, f_coreCount, f_lineCount, f_frameCount, f_msgCount, f_inType, f_inTo, f_inLine, f_inCore, f_inInfo, f_inAcks, a_opKind, a_opAddress, a_opOperand, a_opResult, a_opPerformed, a_acc, a_closedCount, a_nextVictim, a_frameLine, a_frameState, a_frameTarget, a_frameAcks, a_frameGranted, a_frameWords, a_memory, a_current, a_homeOwner, a_homeSharers, a_homeNextOwner, a_homeNextSharers, a_homeBusy, a_homeAwaits, a_queueHead, a_queueLength, a_queueType, a_queueCore, a_queueInfo, a_queueWords, a_msgType, a_msgTo, a_msgLine, a_msgCore, a_msgInfo, a_msgAcks, a_msgWords, a_inWords) => ∃ (k gr : Nat → Nat → Nat) (ac : Nat → Nat → Int) (fr d nd : Nat → Nat → Nat) (aw : Nat → Nat) (n nq : Nat → Nat → Nat → Nat) (R dI dA : Nat → Nat) (V : Nat → Nat → Int32) (pf : Nat → Nat) (M : Nat), f_coreCount = nI cc ∧ f_lineCount = nI lc ∧ f_frameCount = nI fc ∧ f_msgCount = nI M ∧ a_acc = y_acc ∧ a_opOperand = y_opn ∧ a_closedCount = y_fin ∧ a_current = y_cur ∧ dm_X cc lc fc k gr ac fr d nd aw n nq R dI dA V oc ok oa pf cu val M a_opKind a_opAddress a_opOperand a_opResult a_opPerformed a_acc a_nextVictim a_frameLine a_frameState a_frameTarget a_frameAcks a_frameGranted a_frameWords a_memory a_current a_homeOwner a_homeSharers a_homeNextOwner a_homeNextSharers a_homeBusy a_homeAwaits a_queueHead a_queueLength a_queueType a_queueCore a_queueInfo a_queueWords a_msgType a_msgTo a_msgLine a_msgCore a_msgInfo a_msgAcks a_msgWords ∧ dm_LL 8 k gr ac d nd aw n nq R dI dA cu ∧ (∀ e, e < 4 → dm_PU fc oc ok oa pf k a_frameLine e) ∧ dm_Phi n nq gr + dm_s4 (dm_Psi oc ok oa pf k) ≤ N ∧ (∀ e, e < 4 → dm_gn (k gl e))
def dm_IA (cc lc fc : Nat) (oc ok oa cu : Nat → Nat) (val y_acc y_opn y_fin y_cur : Nat → Int32) (gl N : Nat) (c : Nat) (u : SX) : Prop := match u with
  | (f_msgGetS, f_msgGetM, f_msgPut, f_msgDone, f_msgCopyBack, f_msgFwdS, f_msgFwdM, f_msgInv, f_msgAck, f_msgData, f_msgGrant, f_msgPutAck, f_stFree, f_stS, f_stE, f_stM, f_stIS, f_stIM, f_stSM, f_stSI, f_stEI, f_stMI, f_stII, f_coreCount, f_lineCount, f_frameCount, f_msgCount, f_inType, f_inTo, f_inLine, f_inCore, f_inInfo, f_inAcks, a_opKind, a_opAddress, a_opOperand, a_opResult, a_opPerformed, a_acc, a_closedCount, a_nextVictim, a_frameLine, a_frameState, a_frameTarget, a_frameAcks, a_frameGranted, a_frameWords, a_memory, a_current, a_homeOwner, a_homeSharers, a_homeNextOwner, a_homeNextSharers, a_homeBusy, a_homeAwaits, a_queueHead, a_queueLength, a_queueType, a_queueCore, a_queueInfo, a_queueWords, a_msgType, a_msgTo, a_msgLine, a_msgCore, a_msgInfo, a_msgAcks, a_msgWords, a_inWords) => ∃ (k gr : Nat → Nat → Nat) (ac : Nat → Nat → Int) (fr d nd : Nat → Nat → Nat) (aw : Nat → Nat) (n nq : Nat → Nat → Nat → Nat) (R dI dA : Nat → Nat) (V : Nat → Nat → Int32) (pf : Nat → Nat) (M : Nat), f_coreCount = nI cc ∧ f_lineCount = nI lc ∧ f_frameCount = nI fc ∧ f_msgCount = nI M ∧ a_acc = y_acc ∧ a_opOperand = y_opn ∧ a_closedCount = y_fin ∧ a_current = y_cur ∧ dm_X cc lc fc k gr ac fr d nd aw n nq R dI dA V oc ok oa pf cu val M a_opKind a_opAddress a_opOperand a_opResult a_opPerformed a_acc a_nextVictim a_frameLine a_frameState a_frameTarget a_frameAcks a_frameGranted a_frameWords a_memory a_current a_homeOwner a_homeSharers a_homeNextOwner a_homeNextSharers a_homeBusy a_homeAwaits a_queueHead a_queueLength a_queueType a_queueCore a_queueInfo a_queueWords a_msgType a_msgTo a_msgLine a_msgCore a_msgInfo a_msgAcks a_msgWords ∧ dm_LL 8 k gr ac d nd aw n nq R dI dA cu ∧ (∀ e, e < 4 → e ≠ c → dm_PU fc oc ok oa pf k a_frameLine e) ∧ (∃ b, dm_PB fc oc ok oa pf k a_frameLine c b ∧ dm_Phi n nq gr + dm_s4 (dm_fu (dm_Psi oc ok oa pf k) c b) ≤ N) ∧ (∀ e, e < 4 → dm_gn (k gl e))
section
variable {cc lc fc : Nat} {oc ok oa cu : Nat → Nat} {val y_acc y_opn y_fin y_cur : Nat → Int32} {gl N : Nat} {k gr fr d nd : Nat → Nat → Nat} {ac : Nat → Nat → Int} {aw R dI dA pf : Nat → Nat} {n nq : Nat → Nat → Nat → Nat} {V : Nat → Nat → Int32} {M c b : Nat} {f_msgGetS f_msgGetM f_msgPut f_msgDone f_msgCopyBack f_msgFwdS f_msgFwdM f_msgInv f_msgAck f_msgData f_msgGrant f_msgPutAck f_stFree f_stS f_stE f_stM f_stIS f_stIM f_stSM f_stSI f_stEI f_stMI f_stII f_coreCount f_lineCount f_frameCount f_msgCount f_inType f_inTo f_inLine f_inCore f_inInfo f_inAcks : Int32} {a_opKind a_opAddress a_opOperand a_opResult a_opPerformed a_acc a_closedCount a_nextVictim a_frameLine a_frameState a_frameTarget a_frameAcks a_frameGranted a_frameWords a_memory a_current a_homeOwner a_homeSharers a_homeNextOwner a_homeNextSharers a_homeBusy a_homeAwaits a_queueHead a_queueLength a_queueType a_queueCore a_queueInfo a_queueWords a_msgType a_msgTo a_msgLine a_msgCore a_msgInfo a_msgAcks a_msgWords a_inWords : Nat → Int32}
theorem dm_IB_mk (hX : dm_X cc lc fc k gr ac fr d nd aw n nq R dI dA V oc ok oa pf cu val M a_opKind a_opAddress a_opOperand a_opResult a_opPerformed a_acc a_nextVictim a_frameLine a_frameState a_frameTarget a_frameAcks a_frameGranted a_frameWords a_memory a_current a_homeOwner a_homeSharers a_homeNextOwner a_homeNextSharers a_homeBusy a_homeAwaits a_queueHead a_queueLength a_queueType a_queueCore a_queueInfo a_queueWords a_msgType a_msgTo a_msgLine a_msgCore a_msgInfo a_msgAcks a_msgWords) (hL : dm_LL 8 k gr ac d nd aw n nq R dI dA cu) (hp : ∀ e, e < 4 → dm_PU fc oc ok oa pf k a_frameLine e) (hN : dm_Phi n nq gr + dm_s4 (dm_Psi oc ok oa pf k) ≤ N) (hg : ∀ e, e < 4 → dm_gn (k gl e))
    (e1 : a_acc = y_acc) (e2 : a_opOperand = y_opn) (e3 : a_closedCount = y_fin) (e4 : a_current = y_cur) : dm_IB cc lc fc oc ok oa cu val y_acc y_opn y_fin y_cur gl N (f_msgGetS, f_msgGetM, f_msgPut, f_msgDone, f_msgCopyBack, f_msgFwdS, f_msgFwdM, f_msgInv, f_msgAck, f_msgData, f_msgGrant, f_msgPutAck, f_stFree, f_stS, f_stE, f_stM, f_stIS, f_stIM, f_stSM, f_stSI, f_stEI, f_stMI, f_stII, nI cc, nI lc, nI fc, nI M, f_inType, f_inTo, f_inLine, f_inCore, f_inInfo, f_inAcks, a_opKind, a_opAddress, a_opOperand, a_opResult, a_opPerformed, a_acc, a_closedCount, a_nextVictim, a_frameLine, a_frameState, a_frameTarget, a_frameAcks, a_frameGranted, a_frameWords, a_memory, a_current, a_homeOwner, a_homeSharers, a_homeNextOwner, a_homeNextSharers, a_homeBusy, a_homeAwaits, a_queueHead, a_queueLength, a_queueType, a_queueCore, a_queueInfo, a_queueWords, a_msgType, a_msgTo, a_msgLine, a_msgCore, a_msgInfo, a_msgAcks, a_msgWords, a_inWords) :=
  ⟨k, gr, ac, fr, d, nd, aw, n, nq, R, dI, dA, V, pf, M, rfl, rfl, rfl, rfl, e1, e2, e3, e4, hX, hL, hp, hN, hg⟩
theorem dm_IA_mk (hX : dm_X cc lc fc k gr ac fr d nd aw n nq R dI dA V oc ok oa pf cu val M a_opKind a_opAddress a_opOperand a_opResult a_opPerformed a_acc a_nextVictim a_frameLine a_frameState a_frameTarget a_frameAcks a_frameGranted a_frameWords a_memory a_current a_homeOwner a_homeSharers a_homeNextOwner a_homeNextSharers a_homeBusy a_homeAwaits a_queueHead a_queueLength a_queueType a_queueCore a_queueInfo a_queueWords a_msgType a_msgTo a_msgLine a_msgCore a_msgInfo a_msgAcks a_msgWords) (hL : dm_LL 8 k gr ac d nd aw n nq R dI dA cu) (hp : ∀ e, e < 4 → e ≠ c → dm_PU fc oc ok oa pf k a_frameLine e) (hb : dm_PB fc oc ok oa pf k a_frameLine c b) (hN : dm_Phi n nq gr + dm_s4 (dm_fu (dm_Psi oc ok oa pf k) c b) ≤ N) (hg : ∀ e, e < 4 → dm_gn (k gl e))
    (e1 : a_acc = y_acc) (e2 : a_opOperand = y_opn) (e3 : a_closedCount = y_fin) (e4 : a_current = y_cur) : dm_IA cc lc fc oc ok oa cu val y_acc y_opn y_fin y_cur gl N c (f_msgGetS, f_msgGetM, f_msgPut, f_msgDone, f_msgCopyBack, f_msgFwdS, f_msgFwdM, f_msgInv, f_msgAck, f_msgData, f_msgGrant, f_msgPutAck, f_stFree, f_stS, f_stE, f_stM, f_stIS, f_stIM, f_stSM, f_stSI, f_stEI, f_stMI, f_stII, nI cc, nI lc, nI fc, nI M, f_inType, f_inTo, f_inLine, f_inCore, f_inInfo, f_inAcks, a_opKind, a_opAddress, a_opOperand, a_opResult, a_opPerformed, a_acc, a_closedCount, a_nextVictim, a_frameLine, a_frameState, a_frameTarget, a_frameAcks, a_frameGranted, a_frameWords, a_memory, a_current, a_homeOwner, a_homeSharers, a_homeNextOwner, a_homeNextSharers, a_homeBusy, a_homeAwaits, a_queueHead, a_queueLength, a_queueType, a_queueCore, a_queueInfo, a_queueWords, a_msgType, a_msgTo, a_msgLine, a_msgCore, a_msgInfo, a_msgAcks, a_msgWords, a_inWords) :=
  ⟨k, gr, ac, fr, d, nd, aw, n, nq, R, dI, dA, V, pf, M, rfl, rfl, rfl, rfl, e1, e2, e3, e4, hX, hL, hp, ⟨b, hb, hN⟩, hg⟩
end
theorem dm_IB_el {cc lc fc : Nat} {oc ok oa cu : Nat → Nat} {val y_acc y_opn y_fin y_cur : Nat → Int32} {gl N : Nat} {P : SX → Prop} (h : ∀ (k gr : Nat → Nat → Nat) (ac : Nat → Nat → Int) (fr d nd : Nat → Nat → Nat) (aw : Nat → Nat) (n nq : Nat → Nat → Nat → Nat) (R dI dA : Nat → Nat) (V : Nat → Nat → Int32) (pf : Nat → Nat) (M : Nat) (f_msgGetS f_msgGetM f_msgPut f_msgDone f_msgCopyBack f_msgFwdS f_msgFwdM f_msgInv f_msgAck f_msgData f_msgGrant f_msgPutAck f_stFree f_stS f_stE f_stM f_stIS f_stIM f_stSM f_stSI f_stEI f_stMI f_stII f_coreCount f_lineCount f_frameCount f_msgCount f_inType f_inTo f_inLine f_inCore f_inInfo f_inAcks : Int32) (a_opKind a_opAddress a_opOperand a_opResult a_opPerformed a_acc a_closedCount a_nextVictim a_frameLine a_frameState a_frameTarget a_frameAcks a_frameGranted a_frameWords a_memory a_current a_homeOwner a_homeSharers a_homeNextOwner a_homeNextSharers a_homeBusy a_homeAwaits a_queueHead a_queueLength a_queueType a_queueCore a_queueInfo a_queueWords a_msgType a_msgTo a_msgLine a_msgCore a_msgInfo a_msgAcks a_msgWords a_inWords : Nat → Int32), dm_X cc lc fc k gr ac fr d nd aw n nq R dI dA V oc ok oa pf cu val M a_opKind a_opAddress a_opOperand a_opResult a_opPerformed a_acc a_nextVictim a_frameLine a_frameState a_frameTarget a_frameAcks a_frameGranted a_frameWords a_memory a_current a_homeOwner a_homeSharers a_homeNextOwner a_homeNextSharers a_homeBusy a_homeAwaits a_queueHead a_queueLength a_queueType a_queueCore a_queueInfo a_queueWords a_msgType a_msgTo a_msgLine a_msgCore a_msgInfo a_msgAcks a_msgWords → dm_LL 8 k gr ac d nd aw n nq R dI dA cu → (∀ e, e < 4 → dm_PU fc oc ok oa pf k a_frameLine e) → dm_Phi n nq gr + dm_s4 (dm_Psi oc ok oa pf k) ≤ N → (∀ e, e < 4 → dm_gn (k gl e)) → a_acc = y_acc → a_opOperand = y_opn → a_closedCount = y_fin → a_current = y_cur → P (f_msgGetS, f_msgGetM, f_msgPut, f_msgDone, f_msgCopyBack, f_msgFwdS, f_msgFwdM, f_msgInv, f_msgAck, f_msgData, f_msgGrant, f_msgPutAck, f_stFree, f_stS, f_stE, f_stM, f_stIS, f_stIM, f_stSM, f_stSI, f_stEI, f_stMI, f_stII, nI cc, nI lc, nI fc, nI M, f_inType, f_inTo, f_inLine, f_inCore, f_inInfo, f_inAcks, a_opKind, a_opAddress, a_opOperand, a_opResult, a_opPerformed, a_acc, a_closedCount, a_nextVictim, a_frameLine, a_frameState, a_frameTarget, a_frameAcks, a_frameGranted, a_frameWords, a_memory, a_current, a_homeOwner, a_homeSharers, a_homeNextOwner, a_homeNextSharers, a_homeBusy, a_homeAwaits, a_queueHead, a_queueLength, a_queueType, a_queueCore, a_queueInfo, a_queueWords, a_msgType, a_msgTo, a_msgLine, a_msgCore, a_msgInfo, a_msgAcks, a_msgWords, a_inWords)) {u : SX} (I : dm_IB cc lc fc oc ok oa cu val y_acc y_opn y_fin y_cur gl N u) : P u := by
  revert I
  refine dm_el (P := fun u => dm_IB cc lc fc oc ok oa cu val y_acc y_opn y_fin y_cur gl N u → P u) ?_ u
  intro f_msgGetS f_msgGetM f_msgPut f_msgDone f_msgCopyBack f_msgFwdS f_msgFwdM f_msgInv f_msgAck f_msgData f_msgGrant f_msgPutAck f_stFree f_stS f_stE f_stM f_stIS f_stIM f_stSM f_stSI f_stEI f_stMI f_stII f_coreCount f_lineCount f_frameCount f_msgCount f_inType f_inTo f_inLine f_inCore f_inInfo f_inAcks a_opKind a_opAddress a_opOperand a_opResult a_opPerformed a_acc a_closedCount a_nextVictim a_frameLine a_frameState a_frameTarget a_frameAcks a_frameGranted a_frameWords a_memory a_current a_homeOwner a_homeSharers a_homeNextOwner a_homeNextSharers a_homeBusy a_homeAwaits a_queueHead a_queueLength a_queueType a_queueCore a_queueInfo a_queueWords a_msgType a_msgTo a_msgLine a_msgCore a_msgInfo a_msgAcks a_msgWords a_inWords
  rintro ⟨k, gr, ac, fr, d, nd, aw, n, nq, R, dI, dA, V, pf, M, e1, e2, e3, e4, e5, e6, e7, e8, hX, hL, hp, hN, hg⟩
  have := h k gr ac fr d nd aw n nq R dI dA V pf M f_msgGetS f_msgGetM f_msgPut f_msgDone f_msgCopyBack f_msgFwdS f_msgFwdM f_msgInv f_msgAck f_msgData f_msgGrant f_msgPutAck f_stFree f_stS f_stE f_stM f_stIS f_stIM f_stSM f_stSI f_stEI f_stMI f_stII f_coreCount f_lineCount f_frameCount f_msgCount f_inType f_inTo f_inLine f_inCore f_inInfo f_inAcks a_opKind a_opAddress a_opOperand a_opResult a_opPerformed a_acc a_closedCount a_nextVictim a_frameLine a_frameState a_frameTarget a_frameAcks a_frameGranted a_frameWords a_memory a_current a_homeOwner a_homeSharers a_homeNextOwner a_homeNextSharers a_homeBusy a_homeAwaits a_queueHead a_queueLength a_queueType a_queueCore a_queueInfo a_queueWords a_msgType a_msgTo a_msgLine a_msgCore a_msgInfo a_msgAcks a_msgWords a_inWords hX hL hp hN hg e5 e6 e7 e8
  rw [← e1, ← e2, ← e3, ← e4] at this
  exact this
theorem dm_IA_el {cc lc fc : Nat} {oc ok oa cu : Nat → Nat} {val y_acc y_opn y_fin y_cur : Nat → Int32} {gl N : Nat} {c : Nat} {P : SX → Prop} (h : ∀ (k gr : Nat → Nat → Nat) (ac : Nat → Nat → Int) (fr d nd : Nat → Nat → Nat) (aw : Nat → Nat) (n nq : Nat → Nat → Nat → Nat) (R dI dA : Nat → Nat) (V : Nat → Nat → Int32) (pf : Nat → Nat) (M : Nat) (f_msgGetS f_msgGetM f_msgPut f_msgDone f_msgCopyBack f_msgFwdS f_msgFwdM f_msgInv f_msgAck f_msgData f_msgGrant f_msgPutAck f_stFree f_stS f_stE f_stM f_stIS f_stIM f_stSM f_stSI f_stEI f_stMI f_stII f_coreCount f_lineCount f_frameCount f_msgCount f_inType f_inTo f_inLine f_inCore f_inInfo f_inAcks : Int32) (a_opKind a_opAddress a_opOperand a_opResult a_opPerformed a_acc a_closedCount a_nextVictim a_frameLine a_frameState a_frameTarget a_frameAcks a_frameGranted a_frameWords a_memory a_current a_homeOwner a_homeSharers a_homeNextOwner a_homeNextSharers a_homeBusy a_homeAwaits a_queueHead a_queueLength a_queueType a_queueCore a_queueInfo a_queueWords a_msgType a_msgTo a_msgLine a_msgCore a_msgInfo a_msgAcks a_msgWords a_inWords : Nat → Int32), dm_X cc lc fc k gr ac fr d nd aw n nq R dI dA V oc ok oa pf cu val M a_opKind a_opAddress a_opOperand a_opResult a_opPerformed a_acc a_nextVictim a_frameLine a_frameState a_frameTarget a_frameAcks a_frameGranted a_frameWords a_memory a_current a_homeOwner a_homeSharers a_homeNextOwner a_homeNextSharers a_homeBusy a_homeAwaits a_queueHead a_queueLength a_queueType a_queueCore a_queueInfo a_queueWords a_msgType a_msgTo a_msgLine a_msgCore a_msgInfo a_msgAcks a_msgWords → dm_LL 8 k gr ac d nd aw n nq R dI dA cu → (∀ e, e < 4 → e ≠ c → dm_PU fc oc ok oa pf k a_frameLine e) → ∀ b, dm_PB fc oc ok oa pf k a_frameLine c b → dm_Phi n nq gr + dm_s4 (dm_fu (dm_Psi oc ok oa pf k) c b) ≤ N → (∀ e, e < 4 → dm_gn (k gl e)) → a_acc = y_acc → a_opOperand = y_opn → a_closedCount = y_fin → a_current = y_cur → P (f_msgGetS, f_msgGetM, f_msgPut, f_msgDone, f_msgCopyBack, f_msgFwdS, f_msgFwdM, f_msgInv, f_msgAck, f_msgData, f_msgGrant, f_msgPutAck, f_stFree, f_stS, f_stE, f_stM, f_stIS, f_stIM, f_stSM, f_stSI, f_stEI, f_stMI, f_stII, nI cc, nI lc, nI fc, nI M, f_inType, f_inTo, f_inLine, f_inCore, f_inInfo, f_inAcks, a_opKind, a_opAddress, a_opOperand, a_opResult, a_opPerformed, a_acc, a_closedCount, a_nextVictim, a_frameLine, a_frameState, a_frameTarget, a_frameAcks, a_frameGranted, a_frameWords, a_memory, a_current, a_homeOwner, a_homeSharers, a_homeNextOwner, a_homeNextSharers, a_homeBusy, a_homeAwaits, a_queueHead, a_queueLength, a_queueType, a_queueCore, a_queueInfo, a_queueWords, a_msgType, a_msgTo, a_msgLine, a_msgCore, a_msgInfo, a_msgAcks, a_msgWords, a_inWords)) {u : SX} (I : dm_IA cc lc fc oc ok oa cu val y_acc y_opn y_fin y_cur gl N c u) : P u := by
  revert I
  refine dm_el (P := fun u => dm_IA cc lc fc oc ok oa cu val y_acc y_opn y_fin y_cur gl N c u → P u) ?_ u
  intro f_msgGetS f_msgGetM f_msgPut f_msgDone f_msgCopyBack f_msgFwdS f_msgFwdM f_msgInv f_msgAck f_msgData f_msgGrant f_msgPutAck f_stFree f_stS f_stE f_stM f_stIS f_stIM f_stSM f_stSI f_stEI f_stMI f_stII f_coreCount f_lineCount f_frameCount f_msgCount f_inType f_inTo f_inLine f_inCore f_inInfo f_inAcks a_opKind a_opAddress a_opOperand a_opResult a_opPerformed a_acc a_closedCount a_nextVictim a_frameLine a_frameState a_frameTarget a_frameAcks a_frameGranted a_frameWords a_memory a_current a_homeOwner a_homeSharers a_homeNextOwner a_homeNextSharers a_homeBusy a_homeAwaits a_queueHead a_queueLength a_queueType a_queueCore a_queueInfo a_queueWords a_msgType a_msgTo a_msgLine a_msgCore a_msgInfo a_msgAcks a_msgWords a_inWords
  rintro ⟨k, gr, ac, fr, d, nd, aw, n, nq, R, dI, dA, V, pf, M, e1, e2, e3, e4, e5, e6, e7, e8, hX, hL, hp, ⟨b, hb, hN⟩, hg⟩
  have := h k gr ac fr d nd aw n nq R dI dA V pf M f_msgGetS f_msgGetM f_msgPut f_msgDone f_msgCopyBack f_msgFwdS f_msgFwdM f_msgInv f_msgAck f_msgData f_msgGrant f_msgPutAck f_stFree f_stS f_stE f_stM f_stIS f_stIM f_stSM f_stSI f_stEI f_stMI f_stII f_coreCount f_lineCount f_frameCount f_msgCount f_inType f_inTo f_inLine f_inCore f_inInfo f_inAcks a_opKind a_opAddress a_opOperand a_opResult a_opPerformed a_acc a_closedCount a_nextVictim a_frameLine a_frameState a_frameTarget a_frameAcks a_frameGranted a_frameWords a_memory a_current a_homeOwner a_homeSharers a_homeNextOwner a_homeNextSharers a_homeBusy a_homeAwaits a_queueHead a_queueLength a_queueType a_queueCore a_queueInfo a_queueWords a_msgType a_msgTo a_msgLine a_msgCore a_msgInfo a_msgAcks a_msgWords a_inWords hX hL hp b hb hN hg e5 e6 e7 e8
  rw [← e1, ← e2, ← e3, ← e4] at this
  exact this
end
section
section
variable {cc lc fc M : Nat} {k gr fr d nd : Nat → Nat → Nat} {ac : Nat → Nat → Int} {aw R dI dA cu oc ok oa pf : Nat → Nat} {n nq : Nat → Nat → Nat → Nat} {V : Nat → Nat → Int32} {val : Nat → Int32} {f_msgGetS f_msgGetM f_msgPut f_msgDone f_msgCopyBack f_msgFwdS f_msgFwdM f_msgInv f_msgAck f_msgData f_msgGrant f_msgPutAck f_stFree f_stS f_stE f_stM f_stIS f_stIM f_stSM f_stSI f_stEI f_stMI f_stII f_coreCount f_lineCount f_frameCount f_msgCount f_inType f_inTo f_inLine f_inCore f_inInfo f_inAcks : Int32} {a_opKind a_opAddress a_opOperand a_opResult a_opPerformed a_acc a_closedCount a_nextVictim a_frameLine a_frameState a_frameTarget a_frameAcks a_frameGranted a_frameWords a_memory a_current a_homeOwner a_homeSharers a_homeNextOwner a_homeNextSharers a_homeBusy a_homeAwaits a_queueHead a_queueLength a_queueType a_queueCore a_queueInfo a_queueWords a_msgType a_msgTo a_msgLine a_msgCore a_msgInfo a_msgAcks a_msgWords a_inWords : Nat → Int32} {l c f : Nat}
theorem dm_x_give (hX : dm_X cc lc fc k gr ac fr d nd aw n nq R dI dA V oc ok oa pf cu val M a_opKind a_opAddress a_opOperand a_opResult a_opPerformed a_acc a_nextVictim a_frameLine a_frameState a_frameTarget a_frameAcks a_frameGranted a_frameWords a_memory a_current a_homeOwner a_homeSharers a_homeNextOwner a_homeNextSharers a_homeBusy a_homeAwaits a_queueHead a_queueLength a_queueType a_queueCore a_queueInfo a_queueWords a_msgType a_msgTo a_msgLine a_msgCore a_msgInfo a_msgAcks a_msgWords) (hL : dm_LL 8 k gr ac d nd aw n nq R dI dA cu) (hc : c < 4) (h1 : 1 ≤ k l c) (h3 : k l c ≤ 3) (p4 : Int32) (W : Nat → Int32) (hw : ∀ x, x < 4 * M → W x = a_msgWords x)
    (h9 : k l c = 3 → p4 = 1 ∧ ∀ i, i < 4 → W (4 * M + i) = a_frameWords (4 * (4 * c + fr l c) + i)) (h8 : k l c = 2 → p4 ≠ 1) :
    dm_X cc lc fc (dm_f2 k l c (k l c + 6)) gr ac fr d nd aw (dm_fu n l (dm_i (n l) 2 c)) nq R dI dA V oc ok oa pf cu val (M + 1) a_opKind a_opAddress a_opOperand a_opResult a_opPerformed a_acc a_nextVictim a_frameLine (upd a_frameState (4 * c + fr l c) (nI (k l c + 6))) a_frameTarget a_frameAcks a_frameGranted a_frameWords a_memory a_current a_homeOwner a_homeSharers a_homeNextOwner a_homeNextSharers a_homeBusy a_homeAwaits a_queueHead a_queueLength a_queueType a_queueCore a_queueInfo a_queueWords (upd a_msgType M 2) (upd a_msgTo M 4) (upd a_msgLine M (nI l)) (upd a_msgCore M (nI c)) (upd a_msgInfo M p4) (upd a_msgAcks M 0) W ∧
    dm_LL 8 (dm_f2 k l c (k l c + 6)) gr ac d nd aw (dm_fu n l (dm_i (n l) 2 c)) nq R dI dA cu := by
  obtain ⟨hZ, hF, hH, hM, hQ, hP, hO, hV, hC, hN⟩ := hX
  have hk : k l c ≠ 0 := by omega
  have hl := (dm_RF_lt hF hk).1
  have hl0 := hL l (Nat.lt_of_lt_of_le hl hZ.2.2.2.1)
  have hA := hl0.1.1 c hc
  have n2 : n l 2 c = 0 ∧ nq l 2 c = 0 := by
    have : dm_w2 (k l c) = 0 := by rw [dm_w2, if_neg (by omega)]
    have := hA.2.2.2.1
    omega
  have hst : nI (k l c + 6) = nI (dm_st (k l c + 6)) := by rw [dm_st, if_pos (by omega)]
  obtain ⟨g1, g2, g3, g4, g5, g6, g7⟩ := dm_RF_at hF hk
  refine ⟨⟨hZ, dm_RF_st hF hZ.2.2.2.1 hZ.2.2.2.2.2 hk (by omega) hst (fun _ => ?_), hH, dm_RM_kn hM (fun _ g => ?_), dm_RQ_k hQ (Or.inr n2.2), ?_, hO, hV, hC, hN⟩, dm_LL_kn hL ⟨(dm_t_give hl0.1 hc h1 h3).1, hl0.2⟩⟩
  · have : k l c = 1 ∨ k l c = 2 ∨ k l c = 3 := by omega
    rcases this with e | e | e <;> rw [e] <;> decide
  · have e := dm_s4_g dm_dt (f := k l) (c := c) (v := k l c + 6) hc
    have e2 : dm_dt (k l c) = dm_dt (k l c + 6) := by
      have : k l c = 1 ∨ k l c = 2 ∨ k l c = 3 := by omega
      rcases this with e | e | e <;> rw [e] <;> decide
    simp (disch := decide) only [dm_mc, dm_in] at g ⊢
    have e3 : dm_s4 (fun x => dm_dt (dm_fu (k l) c (k l c + 6) x)) = dm_s4 (fun x => dm_dt (k l x)) := by omega
    rw [e3] at g
    exact g
  · have hp := dm_RP_k (v := k l c + 6) hP (Or.inr n2.1)
    rw [← dm_fself (f := n) (i := l)] at hp
    refine dm_RP_post hp hZ.2.2.2.1 hl (by omega) hc ⟨fun _ => ⟨rfl, rfl⟩, fun _ => ⟨fun z => ?_, fun z => ?_⟩, fun z => absurd z (by decide), fun z => absurd z (by decide), fun z => absurd z (by decide), fun z => absurd z (by decide), fun z => absurd z (by decide), fun z => absurd z (by decide)⟩ hw
    · rw [dm_f2v, if_pos ⟨rfl, rfl⟩] at z
      have hk3 : k l c = 3 := by omega
      exact ⟨(h9 hk3).1, fun i hi => ((h9 hk3).2 i hi).trans (g7 (Or.inl (by rw [hk3]; decide)) i hi)⟩
    · rw [dm_f2v, if_pos ⟨rfl, rfl⟩] at z
      exact h8 (by omega)
theorem dm_x_fetch (hX : dm_X cc lc fc k gr ac fr d nd aw n nq R dI dA V oc ok oa pf cu val M a_opKind a_opAddress a_opOperand a_opResult a_opPerformed a_acc a_nextVictim a_frameLine a_frameState a_frameTarget a_frameAcks a_frameGranted a_frameWords a_memory a_current a_homeOwner a_homeSharers a_homeNextOwner a_homeNextSharers a_homeBusy a_homeAwaits a_queueHead a_queueLength a_queueType a_queueCore a_queueInfo a_queueWords a_msgType a_msgTo a_msgLine a_msgCore a_msgInfo a_msgAcks a_msgWords) (hL : dm_LL 8 k gr ac d nd aw n nq R dI dA cu) (hl : l < lc) (hc : c < cc) (hf : f < fc) (e0 : a_frameLine (4 * c + f) = -1) (hk : k l c = 0) {t : Nat} (ht : t < 2) :
    dm_X cc lc fc (dm_f2 k l c (4 + t)) gr ac (dm_f2 fr l c f) d nd aw (dm_fu n l (dm_i (n l) t c)) nq R dI dA V oc ok oa pf cu val (M + 1) a_opKind a_opAddress a_opOperand a_opResult a_opPerformed a_acc a_nextVictim (upd a_frameLine (4 * c + f) (nI l)) (upd a_frameState (4 * c + f) (nI (4 + t))) a_frameTarget (upd a_frameAcks (4 * c + f) 0) (upd a_frameGranted (4 * c + f) 0) a_frameWords a_memory a_current a_homeOwner a_homeSharers a_homeNextOwner a_homeNextSharers a_homeBusy a_homeAwaits a_queueHead a_queueLength a_queueType a_queueCore a_queueInfo a_queueWords (upd a_msgType M (nI t)) (upd a_msgTo M 4) (upd a_msgLine M (nI l)) (upd a_msgCore M (nI c)) (upd a_msgInfo M 0) (upd a_msgAcks M 0) a_msgWords ∧
    dm_LL 8 (dm_f2 k l c (4 + t)) gr ac d nd aw (dm_fu n l (dm_i (n l) t c)) nq R dI dA cu := by
  obtain ⟨hZ, hF, hH, hM, hQ, hP, hO, hV, hC, hN⟩ := hX
  have hc4 : c < 4 := by omega
  have hl0 := hL l (Nat.lt_of_lt_of_le hl hZ.2.2.2.1)
  have hA := hl0.1.1 c hc4
  have hg0 : gr l c = 0 := by have := hA.2.2.2.2.2.2.1; rw [hk, show dm_t2 0 = 0 from rfl] at this; omega
  have ha0 : ac l c = 0 := hA.2.2.2.2.2.2.2.1 (by rw [hk]; rfl)
  have hr : dm_ro (4 + t) = 0 := by
    have : t = 0 ∨ t = 1 := by omega
    rcases this with rfl | rfl <;> decide
  have hF' := dm_RF_new (v := 4 + t) (g := gr l c) (a := ac l c) (FS' := upd a_frameState (4 * c + f) (nI (4 + t))) (FT' := a_frameTarget) (FA' := upd a_frameAcks (4 * c + f) 0) (FG' := upd a_frameGranted (4 * c + f) 0) (FW' := a_frameWords) hF hZ.2.2.2.1 hZ.2.2.2.2.2 hl hc hf hk (by omega) e0
    ⟨pk_us, by rw [pk_us, dm_st, if_pos (by omega)], by rw [pk_us, ha0]; rfl, by rw [pk_us, hg0]; rfl, fun z => absurd z (by omega), fun z => absurd z (by omega)⟩
    (fun j hj => ⟨pk_un hj, rfl, pk_un hj, pk_un hj, fun _ _ => rfl⟩)
  rw [dm_f2self, dm_f2self] at hF'
  refine ⟨⟨hZ, hF', hH, dm_RM_kn hM (fun _ g => ?_), dm_RQ_k hQ (Or.inl ⟨by omega, by omega⟩), ?_, hO, hV, hC, hN⟩, dm_LL_kn hL ⟨?_, hl0.2⟩⟩
  · have e := dm_s4_g dm_dt (f := k l) (c := c) (v := 4 + t) hc4
    have e2 : dm_dt (4 + t) = 0 := by
      have : t = 0 ∨ t = 1 := by omega
      rcases this with rfl | rfl <;> decide
    have e1 : dm_dt (k l c) = 0 := by rw [hk]; rfl
    simp only [dm_mc] at g ⊢
    rw [dm_in (by omega), dm_in (by omega)] at g
    have e3 : dm_s4 (fun x => dm_dt (dm_fu (k l) c (4 + t) x)) = dm_s4 (fun x => dm_dt (k l x)) := by omega
    rw [e3] at g
    exact g
  · have hp := dm_RP_k (l := l) (c := c) (v := 4 + t) hP (Or.inl ⟨by omega, by omega⟩)
    rw [← dm_fself (f := n) (i := l)] at hp
    exact dm_RP_post hp hZ.2.2.2.1 hl (by omega) hc4 ⟨fun _ => ⟨rfl, rfl⟩, fun z => absurd z (by omega), fun z => absurd z (by omega), fun z => absurd z (by omega), fun z => absurd z (by omega), fun z => absurd z (by omega), fun z => absurd z (by omega), fun z => absurd z (by omega)⟩ (fun _ _ => rfl)
  · exact (dm_t_fetch hl0.1 hc4 hk ht).1
theorem dm_x_upg (hX : dm_X cc lc fc k gr ac fr d nd aw n nq R dI dA V oc ok oa pf cu val M a_opKind a_opAddress a_opOperand a_opResult a_opPerformed a_acc a_nextVictim a_frameLine a_frameState a_frameTarget a_frameAcks a_frameGranted a_frameWords a_memory a_current a_homeOwner a_homeSharers a_homeNextOwner a_homeNextSharers a_homeBusy a_homeAwaits a_queueHead a_queueLength a_queueType a_queueCore a_queueInfo a_queueWords a_msgType a_msgTo a_msgLine a_msgCore a_msgInfo a_msgAcks a_msgWords) (hL : dm_LL 8 k gr ac d nd aw n nq R dI dA cu) (hc4 : c < 4) (hk : k l c = 1) :
    dm_X cc lc fc (dm_f2 k l c 6) gr ac fr d nd aw (dm_fu n l (dm_i (n l) 1 c)) nq R dI dA V oc ok oa pf cu val (M + 1) a_opKind a_opAddress a_opOperand a_opResult a_opPerformed a_acc a_nextVictim a_frameLine (upd a_frameState (4 * c + fr l c) 6) a_frameTarget (upd a_frameAcks (4 * c + fr l c) 0) (upd a_frameGranted (4 * c + fr l c) 0) a_frameWords a_memory a_current a_homeOwner a_homeSharers a_homeNextOwner a_homeNextSharers a_homeBusy a_homeAwaits a_queueHead a_queueLength a_queueType a_queueCore a_queueInfo a_queueWords (upd a_msgType M 1) (upd a_msgTo M 4) (upd a_msgLine M (nI l)) (upd a_msgCore M (nI c)) (upd a_msgInfo M 0) (upd a_msgAcks M 0) a_msgWords ∧
    dm_LL 8 (dm_f2 k l c 6) gr ac d nd aw (dm_fu n l (dm_i (n l) 1 c)) nq R dI dA cu := by
  obtain ⟨hZ, hF, hH, hM, hQ, hP, hO, hV, hC, hN⟩ := hX
  have hk0 : k l c ≠ 0 := by omega
  have hl := (dm_RF_lt hF hk0).1
  have hl0 := hL l (Nat.lt_of_lt_of_le hl hZ.2.2.2.1)
  have hA := hl0.1.1 c hc4
  have hg0 : gr l c = 0 := by have := hA.2.2.2.2.2.2.1; rw [hk, show dm_t2 1 = 0 from rfl] at this; omega
  have ha0 : ac l c = 0 := hA.2.2.2.2.2.2.2.1 (by rw [hk]; rfl)
  obtain ⟨g1, g2, g3, g4, g5, g6, g7⟩ := dm_RF_at hF hk0
  have hF' := dm_RF_set (v := 6) (g := gr l c) (a := ac l c) (FS' := upd a_frameState (4 * c + fr l c) 6) (FT' := a_frameTarget) (FA' := upd a_frameAcks (4 * c + fr l c) 0) (FG' := upd a_frameGranted (4 * c + fr l c) 0) (FW' := a_frameWords) hF hZ.2.2.2.1 hZ.2.2.2.2.2 hk0 (by omega)
    ⟨g2, by rw [pk_us]; rfl, by rw [pk_us, ha0]; rfl, by rw [pk_us, hg0]; rfl, fun z => absurd z (by omega), fun _ => g7 (Or.inl (by rw [hk]; decide))⟩
    (fun j hj => ⟨pk_un hj, rfl, pk_un hj, pk_un hj, fun _ _ => rfl⟩)
  rw [dm_f2self, dm_f2self] at hF'
  refine ⟨⟨hZ, hF', hH, dm_RM_kn hM (fun _ g => ?_), dm_RQ_k hQ (Or.inl ⟨by omega, by omega⟩), ?_, hO, hV, hC, hN⟩, dm_LL_kn hL ⟨dm_t_upg hl0.1 hc4 hk, hl0.2⟩⟩
  · have e := dm_s4_g dm_dt (f := k l) (c := c) (v := 6) hc4
    have e2 : dm_dt 6 = 0 := rfl
    have e1 : dm_dt (k l c) = 0 := by rw [hk]; rfl
    simp only [dm_mc] at g ⊢
    rw [dm_in (by omega), dm_in (by omega)] at g
    have e3 : dm_s4 (fun x => dm_dt (dm_fu (k l) c 6 x)) = dm_s4 (fun x => dm_dt (k l x)) := by omega
    rw [e3] at g
    exact g
  · have hp := dm_RP_k (l := l) (c := c) (v := 6) hP (Or.inl ⟨by omega, by omega⟩)
    rw [← dm_fself (f := n) (i := l)] at hp
    exact dm_RP_post hp hZ.2.2.2.1 hl (by omega) hc4 ⟨fun _ => ⟨rfl, rfl⟩, fun z => absurd z (by decide), fun z => absurd z (by decide), fun z => absurd z (by decide), fun z => absurd z (by decide), fun z => absurd z (by decide), fun z => absurd z (by decide), fun z => absurd z (by decide)⟩ (fun _ _ => rfl)
end
end
section
theorem dm_RF_perf {cc lc fc l c v i : Nat} {k gr fr : Nat → Nat → Nat} {ac : Nat → Nat → Int} {V : Nat → Nat → Int32} {FL FS FT FA FG FW : Nat → Int32} {s x : Int32}
    (h : dm_RF cc lc fc k gr ac fr V FL FS FT FA FG FW) (hlc : lc ≤ 8) (hfc : fc ≤ 4) (hk : k l c ≠ 0) (hr : dm_ro (k l c) ≠ 0) (hv : v ≠ 0) (hs : s = nI (dm_st v)) (hi : i < 4)
    (hu : ∀ y, y ≠ c → k l y ≠ 0 → dm_ro (k l y) = 0 ∧ gr l y ≠ 1) :
    dm_RF cc lc fc (dm_f2 k l c v) gr ac fr (dm_f2 V l i x) FL (upd FS (4 * c + fr l c) s) FT FA FG (upd FW (4 * (4 * c + fr l c) + i) x) := by
  have hlt := dm_RF_lt h hk
  refine ⟨fun a b z => ?_, fun a b ha hb z => ?_, fun b j hb hj => ?_⟩
  · rw [dm_f2v, if_neg (fun e => z (by rw [e.1, e.2]; exact hlt))]; exact h.1 a b z
  · by_cases e : a = l ∧ b = c
    · obtain ⟨rfl, rfl⟩ := e
      obtain ⟨h1, h2, h3, h4, h5, h6, h7⟩ := dm_RF_at h hk
      refine ⟨h1, h2, ?_, h4, h5, h6, fun _ j hj => ?_⟩
      · rw [pk_us, hs, dm_f2v, if_pos ⟨rfl, rfl⟩]
      · rw [dm_f2s]
        by_cases e : j = i
        · subst e; rw [pk_us, dm_fs]
        · rw [pk_un (by omega), dm_fn e]; exact h7 (Or.inl hr) j hj
    · rw [dm_f2v, if_neg e] at z ⊢
      obtain ⟨h1, h2, h3, h4, h5, h6, h7⟩ := dm_RF_at h z
      have hne := dm_RF_inj h hlc hfc hk z e
      refine ⟨h1, h2, by rw [pk_un hne]; exact h3, h4, h5, h6, fun w j hj => ?_⟩
      rw [pk_un (by omega)]
      by_cases g : a = l
      · subst g
        have := hu b (fun q => e ⟨rfl, q⟩) z
        exact absurd w (by intro w; rcases w with w | w; exact w this.1; exact this.2 w)
      · rw [dm_f2n g]; exact h7 w j hj
  · rcases h.2.2 b j hb hj with e | ⟨a, ha, e1, e2⟩
    · exact Or.inl e
    · refine Or.inr ⟨a, ha, ?_, e2⟩
      rw [dm_f2v]; split
      · exact hv
      · exact e1
section
variable {cc lc fc M : Nat} {k gr fr d nd : Nat → Nat → Nat} {ac : Nat → Nat → Int} {aw R dI dA cu oc ok oa pf : Nat → Nat} {n nq : Nat → Nat → Nat → Nat} {V : Nat → Nat → Int32} {val : Nat → Int32} {f_msgGetS f_msgGetM f_msgPut f_msgDone f_msgCopyBack f_msgFwdS f_msgFwdM f_msgInv f_msgAck f_msgData f_msgGrant f_msgPutAck f_stFree f_stS f_stE f_stM f_stIS f_stIM f_stSM f_stSI f_stEI f_stMI f_stII f_coreCount f_lineCount f_frameCount f_msgCount f_inType f_inTo f_inLine f_inCore f_inInfo f_inAcks : Int32} {a_opKind a_opAddress a_opOperand a_opResult a_opPerformed a_acc a_closedCount a_nextVictim a_frameLine a_frameState a_frameTarget a_frameAcks a_frameGranted a_frameWords a_memory a_current a_homeOwner a_homeSharers a_homeNextOwner a_homeNextSharers a_homeBusy a_homeAwaits a_queueHead a_queueLength a_queueType a_queueCore a_queueInfo a_queueWords a_msgType a_msgTo a_msgLine a_msgCore a_msgInfo a_msgAcks a_msgWords a_inWords : Nat → Int32} {l c f : Nat}
theorem dm_x_perfL (hX : dm_X cc lc fc k gr ac fr d nd aw n nq R dI dA V oc ok oa pf cu val M a_opKind a_opAddress a_opOperand a_opResult a_opPerformed a_acc a_nextVictim a_frameLine a_frameState a_frameTarget a_frameAcks a_frameGranted a_frameWords a_memory a_current a_homeOwner a_homeSharers a_homeNextOwner a_homeNextSharers a_homeBusy a_homeAwaits a_queueHead a_queueLength a_queueType a_queueCore a_queueInfo a_queueWords a_msgType a_msgTo a_msgLine a_msgCore a_msgInfo a_msgAcks a_msgWords) (hc : c < 4) (ho : oc c = 1) (hf : pf c = 0) (h0 : ok c = 0) (hl : oa c / 4 = l) (hr : dm_ro (k l c) ≠ 0) :
    dm_X cc lc fc k gr ac fr d nd aw n nq R dI dA V oc ok oa (dm_fu pf c 1) cu val M a_opKind a_opAddress a_opOperand (upd a_opResult c (a_frameWords (4 * (4 * c + fr l c) + oa c % 4))) (upd a_opPerformed c 1) a_acc a_nextVictim a_frameLine a_frameState a_frameTarget a_frameAcks a_frameGranted a_frameWords a_memory a_current a_homeOwner a_homeSharers a_homeNextOwner a_homeNextSharers a_homeBusy a_homeAwaits a_queueHead a_queueLength a_queueType a_queueCore a_queueInfo a_queueWords a_msgType a_msgTo a_msgLine a_msgCore a_msgInfo a_msgAcks a_msgWords := by
  obtain ⟨hZ, hF, hH, hM, hQ, hP, hO, hV, hC, hN⟩ := hX
  obtain ⟨o1, o2, o3, o4, o5⟩ := hO c hc
  obtain ⟨o6, o7, o8, o9, o10⟩ := o4 ho
  have hk : k l c ≠ 0 := fun z => hr (by rw [z]; rfl)
  obtain ⟨g1, g2, g3, g4, g5, g6, g7⟩ := dm_RF_at hF hk
  have hw := g7 (Or.inl hr) (oa c % 4) (by omega)
  have hA : 4 * l + oa c % 4 = oa c := by omega
  have hp : ∀ e, e < 4 → e ≠ c → oc e = 1 → oa e = oa c → ok c = ok e ∧ (ok c = 0 ∨ ok c = 2 ∨ ok c = 3) := fun e he hne h1 h2 => hV.2.2 c e hc he (fun z => hne z.symm) ho h1 h2.symm
  refine ⟨hZ, hF, hH, hM, hQ, hP, fun e he => ?_, ⟨fun a i ha hi => ?_, fun e he h1 h2 => ?_, hV.2.2⟩, hC, hN⟩
  · by_cases e1 : e = c
    · subst e1
      refine ⟨o1, by rw [dm_fs]; omega, fun z => absurd z (by omega), o4, by rw [dm_fs, pk_us]; rfl⟩
    · rw [dm_fn e1, pk_un e1]; exact hO e he
  · rw [hV.1 a i ha hi]
    by_cases e1 : oa c = 4 * a + i
    · rw [dm_fd_perf hc ho hf e1 hp, h0, dm_app0]
    · exact (dm_fd_ne fun e he h => dm_fn (fun z => e1 (by rw [← z]; exact h))).symm
  · by_cases e1 : e = c
    · subst e1
      rw [pk_us, hw, hV.1 l _ (by omega) (by omega), hA]
      rw [dm_fd_id (fun y hy q1 q2 q3 => ?_)]
      · rw [dm_res, if_neg (by omega)]
      · by_cases e2 : y = e
        · rw [e2]; exact h0
        · have := (hp y hy e2 q1 q3).1; omega
    · rw [dm_fn e1] at h2; rw [pk_un e1]; exact hV.2.1 e he h1 h2
theorem dm_x_perfW (hX : dm_X cc lc fc k gr ac fr d nd aw n nq R dI dA V oc ok oa pf cu val M a_opKind a_opAddress a_opOperand a_opResult a_opPerformed a_acc a_nextVictim a_frameLine a_frameState a_frameTarget a_frameAcks a_frameGranted a_frameWords a_memory a_current a_homeOwner a_homeSharers a_homeNextOwner a_homeNextSharers a_homeBusy a_homeAwaits a_queueHead a_queueLength a_queueType a_queueCore a_queueInfo a_queueWords a_msgType a_msgTo a_msgLine a_msgCore a_msgInfo a_msgAcks a_msgWords) (hL : dm_LL 8 k gr ac d nd aw n nq R dI dA cu) (hc : c < 4) (ho : oc c = 1) (hf : pf c = 0) (h0 : ok c ≠ 0) (hl : oa c / 4 = l) (hk : k l c = 2 ∨ k l c = 3) :
    dm_X cc lc fc (dm_f2 k l c 3) gr ac fr d nd aw n nq R dI dA (dm_f2 V l (oa c % 4) (dm_app (ok c) (a_opOperand c) (a_acc c) (V l (oa c % 4)))) oc ok oa (dm_fu pf c 1) cu val M a_opKind a_opAddress a_opOperand (upd a_opResult c (dm_res (ok c) (a_opOperand c) (V l (oa c % 4)))) (upd a_opPerformed c 1) a_acc a_nextVictim a_frameLine (upd a_frameState (4 * c + fr l c) 3) a_frameTarget a_frameAcks a_frameGranted (upd a_frameWords (4 * (4 * c + fr l c) + oa c % 4) (dm_app (ok c) (a_opOperand c) (a_acc c) (V l (oa c % 4)))) a_memory a_current a_homeOwner a_homeSharers a_homeNextOwner a_homeNextSharers a_homeBusy a_homeAwaits a_queueHead a_queueLength a_queueType a_queueCore a_queueInfo a_queueWords a_msgType a_msgTo a_msgLine a_msgCore a_msgInfo a_msgAcks a_msgWords ∧
    dm_LL 8 (dm_f2 k l c 3) gr ac d nd aw n nq R dI dA cu := by
  obtain ⟨hZ, hF, hH, hM, hQ, hP, hO, hV, hC, hN⟩ := hX
  obtain ⟨o1, o2, o3, o4, o5⟩ := hO c hc
  obtain ⟨o6, o7, o8, o9, o10⟩ := o4 ho
  have hk0 : k l c ≠ 0 := by omega
  have hll : l < lc := by omega
  have hl0 := hL l (Nat.lt_of_lt_of_le hll hZ.2.2.2.1)
  have hcu : cu l ≠ 1 := fun z => h0 ((hC l hll).2.2 z c hc ho hl)
  have how : dm_ow (k l c) = 1 := by rcases hk with e | e <;> rw [e] <;> rfl
  have hT := hl0.1.2.1
  simp only [dm_LT] at hT
  have hOW : dm_s4 (fun c => dm_ow (k l c)) = 1 := by
    have h1 : dm_ow (k l c) ≤ dm_s4 (fun c => dm_ow (k l c)) := dm_s4_le (f := fun c => dm_ow (k l c)) hc
    have h2 := hT.2.2.2.2.1
    omega
  have hz := hT.2.2.2.2.2.1 hOW
  have hot : ∀ y, y < 4 → y ≠ c → dm_ro (k l y) = 0 := fun y hy hne => by
    have b1 : dm_ow (k l c) + dm_ow (k l y) ≤ dm_s4 (fun c => dm_ow (k l c)) := dm_s4_le2 (f := fun c => dm_ow (k l c)) hc hy (fun z => hne z.symm)
    have b2 : dm_sh (k l y) ≤ dm_s4 (fun c => dm_sh (k l c)) := dm_s4_le (f := fun c => dm_sh (k l c)) hy
    rw [dm_ro]; omega
  have hA : 4 * l + oa c % 4 = oa c := by omega
  have hp : ∀ e, e < 4 → e ≠ c → oc e = 1 → oa e = oa c → ok c = ok e ∧ (ok c = 0 ∨ ok c = 2 ∨ ok c = 3) := fun e he hne h1 h2 => hV.2.2 c e hc he (fun z => hne z.symm) ho h1 h2.symm
  have hu : ∀ y, y ≠ c → k l y ≠ 0 → dm_ro (k l y) = 0 ∧ gr l y ≠ 1 := fun y hne hy => by
    have hy4 : y < 4 := by have := (dm_RF_lt hF hy).2; omega
    refine ⟨hot y hy4 hne, fun z => ?_⟩
    have b := dm_s4_le (f := gr l) hy4
    omega
  have h89 : ∀ y, y < 4 → dm_f2 k l c 3 l y ≠ 9 ∧ dm_f2 k l c 3 l y ≠ 8 := fun y hy => by
    rw [dm_f2v]
    by_cases e : y = c
    · rw [if_pos ⟨rfl, e⟩]; omega
    · rw [if_neg (fun z => e z.2)]
      have := hot y hy e
      constructor <;> (intro z; rw [z] at this; exact absurd this (by decide))
  refine ⟨⟨hZ, dm_RF_perf hF hZ.2.2.2.1 hZ.2.2.2.2.2 hk0 (by rw [dm_ro]; omega) (by omega) rfl (by omega) hu, hH, ?_, ?_, ?_, fun e he => ?_, ⟨fun a i ha hi => ?_, fun e he h1 h2 => ?_, hV.2.2⟩, hC, hN⟩, ?_⟩
  · intro a ha
    by_cases e : a = l
    · subst e
      rw [dm_f2s]
      intro g
      simp only [dm_mc] at g
      rcases g with g | g
      · have e := dm_s4_le (f := fun x => dm_dt (dm_fu (k a) c 3 x)) hc
        simp only [dm_fs] at e
        rw [g.2.2] at e
        exact absurd e (by decide)
      · exact absurd g hcu
    · rw [dm_f2n e, dm_f2n e]; exact hM a ha
  · refine dm_RQ_mono hQ fun l' t' c' hl' ht' hc' hn inf w hm z => ?_
    by_cases e : l' = l
    · subst e
      exact ⟨fun y => absurd y (h89 c' hc').1, fun y => absurd y (h89 c' hc').2⟩
    · rw [dm_f2n e, dm_f2n e]; exact hm z
  · refine dm_RP_mono hP fun l' t' c' hl' ht' hc' hn to co inf ak w hm => ?_
    by_cases e : l' = l
    · subst e
      obtain ⟨q1, q2, q3, q4, q5, q6, q7, q8⟩ := hm
      refine ⟨q1, fun z => ⟨fun y => absurd y (h89 c' hc').1, fun y => absurd y (h89 c' hc').2⟩, fun z => ?_, q4, q5, fun z => ?_, q7, q8⟩
      · subst z
        have b := dm_s4_le (f := n l' 4) hc'
        omega
      · subst z
        have b := dm_s4_le (f := n l' 9) hc'
        omega
    · simp only [dm_CM, dm_f2n e]; exact hm
  · by_cases e1 : e = c
    · subst e1
      refine ⟨o1, by rw [dm_fs]; omega, fun z => absurd z (by omega), o4, by rw [dm_fs, pk_us]; rfl⟩
    · rw [dm_fn e1, pk_un e1]; exact hO e he
  · by_cases e1 : oa c = 4 * a + i
    · have ea : a = l := by omega
      have ei : i = oa c % 4 := by omega
      rw [ea, ei, dm_f2v, if_pos ⟨rfl, rfl⟩, hV.1 l _ hll (by omega), hA, dm_fd_perf hc ho hf rfl hp]
    · rw [dm_f2v, if_neg (by omega), hV.1 a i ha hi]
      exact (dm_fd_ne fun e he h => dm_fn (fun z => e1 (by rw [← z]; exact h))).symm
  · by_cases e1 : e = c
    · subst e1
      rw [pk_us, hV.1 l _ (by omega) (by omega), hA]
      by_cases e3 : ok e = 1 ∨ ok e = 2 ∨ ok e = 3
      · rw [dm_res, dm_res, if_pos e3, if_pos e3]
      · rw [dm_fd_id (fun y hy q1 q2 q3 => ?_)]
        by_cases e2 : y = e
        · rw [e2, hf] at q2; omega
        · have := (hp y hy e2 q1 q3); omega
    · rw [dm_fn e1] at h2; rw [pk_un e1]; exact hV.2.1 e he h1 h2
  · have := dm_LL_kn (X := n l) hL ⟨dm_t_perf hl0.1 hc hk hcu, hl0.2⟩
    rw [dm_fself] at this
    exact this
end
end
section
/-! what a message to a core does to the pursued operations and to the work left -/
def dm_tr (a b : Nat) : Prop := (a = 11 ∧ 1 ≤ b ∧ b ≤ 3) ∨ ((a = 12 ∨ a = 13) ∧ (b = 2 ∨ b = 3)) ∨ (a = 6 ∧ b = 5) ∨ (dm_lv a = 1 ∧ (dm_lv b = 1 ∨ b = 0)) ∨ (1 ≤ a ∧ a ≤ 3 ∧ b ≤ 1) ∨ (a = b ∧ 11 ≤ a ∧ a ≤ 13)
theorem dm_tr_lv {a b : Nat} (h : dm_tr a b) (hb : b ≠ 0) (ha : dm_lv a = 1) : dm_lv b = 1 := by
  rcases h with ⟨rfl, _⟩ | ⟨rfl | rfl, _⟩ | ⟨rfl, _⟩ | ⟨_, h | h⟩ | ⟨h1, h2, _⟩ | ⟨_, h1, h2⟩
  · exact absurd ha (by decide)
  · exact absurd ha (by decide)
  · exact absurd ha (by decide)
  · exact absurd ha (by decide)
  · exact h
  · exact absurd h hb
  · simp only [dm_lv] at ha; split at ha <;> omega
  · simp only [dm_lv] at ha; split at ha <;> omega
theorem dm_Phi_set {l : Nat} {n nq : Nat → Nat → Nat → Nat} {gr : Nat → Nat → Nat} {N Q : Nat → Nat → Nat} {G : Nat → Nat} (hl : l < 8) : dm_Phi (dm_fu n l N) (dm_fu nq l Q) (dm_fu gr l G) + dm_phi (n l) (nq l) (gr l) = dm_Phi n nq gr + dm_phi N Q G := by
  have h := dm_s8_fu (f := fun x => dm_phi (n x) (nq x) (gr x)) (v := dm_phi N Q G) hl
  have e : dm_Phi (dm_fu n l N) (dm_fu nq l Q) (dm_fu gr l G) = dm_s8 (dm_fu (fun x => dm_phi (n x) (nq x) (gr x)) l (dm_phi N Q G)) := by
    rw [dm_Phi]
    refine dm_s8_ext fun x _ => ?_
    by_cases g : x = l
    · subst g; simp only [dm_fs]
    · simp only [dm_fn g]
  rw [e, dm_Phi]; exact h
section
variable {fc l c v e : Nat} {oc ok oa pf : Nat → Nat} {k : Nat → Nat → Nat} {FL FL' : Nat → Int32}
theorem dm_f2e (h : e ≠ c) (x : Nat) : dm_f2 k l c v x e = k x e := by rw [dm_f2v, if_neg (fun z => h z.2)]
theorem dm_PU_ne (h : e ≠ c) (hF : ∀ f, f < fc → FL' (4 * e + f) = FL (4 * e + f)) (hp : dm_PU fc oc ok oa pf k FL e) : dm_PU fc oc ok oa pf (dm_f2 k l c v) FL' e := by
  intro h1 h2
  have q := hp h1 h2
  simp only [dm_f2e h]
  rcases q with q | q | ⟨q1, q2, q3⟩
  · exact Or.inl q
  · exact Or.inr (Or.inl q)
  · exact Or.inr (Or.inr ⟨q1, fun f hf => by rw [hF f hf]; exact q2 f hf, q3⟩)
theorem dm_Psi_ne (h : e ≠ c) : dm_Psi oc ok oa pf (dm_f2 k l c v) e = dm_Psi oc ok oa pf k e := by
  simp only [dm_Psi, dm_f2e h]
theorem dm_s4_Psi : dm_s4 (dm_fu (dm_Psi oc ok oa pf (dm_f2 k l c v)) c (dm_Psi oc ok oa pf k c)) = dm_s4 (dm_Psi oc ok oa pf k) := by
  refine dm_s4_ext fun x _ => ?_
  by_cases g : x = c
  · subst g; rw [dm_fs]
  · rw [dm_fn g, dm_Psi_ne g]
theorem dm_PB_tr (hfc : fc ≤ 4) (hl : l < 8) (htr : dm_tr (k l c) v) (hr : k l c ≠ 0) (hv : v = 0 → ∃ f, f < fc ∧ FL' (4 * c + f) = -1) (hF : v ≠ 0 → FL' = FL) (hp : dm_PU fc oc ok oa pf k FL c) :
    dm_PB fc oc ok oa pf (dm_f2 k l c v) FL' c (dm_Psi oc ok oa pf k c) := by
  intro h1 h2
  have q := hp h1 h2
  have ee := dm_s8_g (fun g : Nat → Nat => dm_lv (g c)) (f := k) (v := dm_fu (k l) c v) hl
  simp only [dm_fs] at ee
  have ee' : dm_s8 (fun x => dm_lv (dm_f2 k l c v x c)) + dm_lv (k l c) = dm_s8 (fun x => dm_lv (k x c)) + dm_lv v := ee
  have hne : v = 0 → ¬ ∀ f, f < fc → FL' (4 * c + f) ≠ -1 := fun z y => by obtain ⟨f, hf, g⟩ := hv z; exact y f hf g
  simp only [dm_Psi, dm_psi, h1, h2, and_self, if_true]
  have hlvm := fun z => dm_tr_lv htr z
  clear hv hF
  by_cases e : oa c / 4 = l
  · rw [e] at q ⊢
    rw [dm_f2v, if_pos ⟨rfl, rfl⟩]
    have lz : dm_lv 0 = 0 := rfl
    refine ⟨fun z => ?_, fun z y => absurd y (hne z), fun z y => ?_, fun z y => ?_, fun z => ?_⟩
    · subst z
      simp only [dm_tr] at htr
      have : dm_lv (k l c) = 1 := by simp only [dm_lv] at *; omega
      simp only [dm_lv] at this
      split <;> (try split) <;> (try split at this) <;> omega
    · subst z
      simp only [dm_tr, dm_lv] at htr
      split <;> (try split) <;> (try split at htr) <;> omega
    · simp only [dm_tr, dm_lv] at htr
      split <;> (try split) <;> (try split at htr) <;> omega
    · simp only [dm_tr, dm_lv] at htr z
      split <;> (try split) <;> (try split at htr) <;> (try split at z) <;> omega
  · have e2 : dm_f2 k l c v (oa c / 4) c = k (oa c / 4) c := by rw [dm_f2n e]
    rw [e2]
    refine ⟨fun z => ?_, fun z y w => ?_, fun z y => ?_, fun z y => ?_, fun z => ?_⟩
    · rw [z]; simp; split <;> omega
    · have hv0 : v ≠ 0 := fun g => hne g y
      have hlv : dm_s8 (fun x => dm_lv (k x c)) = 0 := by
        have b := hlvm hv0
        have c1 : dm_lv (k l c) ≤ 1 := by rw [dm_lv]; split <;> omega
        omega
      rw [z, hlv]; simp
    · omega
    · split
      · omega
      · split <;> omega
    · simp only [dm_lv] at z
      split <;> (try split) <;> (try split at z) <;> omega
end
end
section
/-! the messages to a core, for one line -/
section
variable {k gr d nd : Nat → Nat} {ac : Nat → Int} {aw : Nat} {n nq : Nat → Nat → Nat} {R dI dA cu c : Nat}
theorem dm_g_data (h : dm_L0 k gr ac d nd aw n nq R dI dA cu) (hc : c < 4) (hn : 1 ≤ n 9 c) :
    c = R ∧ (k c = 11 ∨ k c = 12) ∧ 1 ≤ dI ∧ dI ≤ 3 ∧ (dI = 1 → k c = 11) ∧ gr c = 0 ∧ 0 ≤ (dA : Int) + ac c ∧ (dA : Int) + ac c ≤ 8 ∧ ((dA : Int) + ac c ≠ 0 → dI = 2) ∧ dm_s4 (n 9) = 1 := by
  obtain ⟨hA, hT, hB⟩ := h
  simp only [dm_LT] at hT
  have a := hA c hc
  have hl := dm_s4_le (f := n 9) hc
  have hr2 : dm_t2 (k c) = 1 := by have := a.2.2.2.2.2.2.1; have h1 := dm_t2_le (k c); omega
  have hcR : c = R := a.2.2.2.2.2.1 hr2
  subst hcR
  have hs := dm_T_src hT (by omega)
  have i8 : ∀ e, e < 4 → n 7 e + n 8 e ≤ 1 := fun e he => (hA e he).2.2.2.2.2.2.2.2.2.2.1
  have hIA : dm_s4 (n 7) + dm_s4 (n 8) ≤ 8 := by
    have := i8 0 (by omega)
    have := i8 1 (by omega)
    have := i8 2 (by omega)
    have := i8 3 (by omega)
    simp only [dm_s4]; omega
  obtain ⟨t1, t2, t3, t4, t5, t6, t7, t8, t9, t10, t11, t12, t13, t14, t15, t16, t17, t18, t19⟩ := hT
  have hk := dm_t2_k (x := k c) (by omega)
  have h15 := t15 (by omega)
  have h16 := t16 (by omega)
  have h8 := t8 hs.1
  have h7 := a.2.2.2.2.2.2.1
  refine ⟨rfl, by omega, by omega, by omega, fun z => (t9 hs.1 z).2.2.2.2, by omega, by omega, by omega, fun z => ?_, by omega⟩
  have z1 : ¬ dI = 1 := fun y => by have := (t9 hs.1 y).1; omega
  have z3 : ¬ dI = 3 := fun y => by have := (t11 hs.1 y).1; omega
  omega
theorem dm_g_dataC (h : dm_L0 k gr ac d nd aw n nq R dI dA cu) (hc : c < 4) (hn : 1 ≤ n 9 c) (hz : (dA : Int) + ac c = 0) :
    dm_L0 (dm_fu k c dI) gr (dm_fu ac c 0) d nd aw (dm_i (dm_d n 9 c) 3 c) nq R dI dA cu ∧ dm_phi (dm_i (dm_d n 9 c) 3 c) nq gr + 1 ≤ dm_phi n nq gr ∧ dm_tr (k c) dI ∧ (dm_mc (dm_fu k c dI) (dm_i (dm_d n 9 c) 3 c) dI cu → dm_mc k n dI cu) := by
  obtain ⟨g1, g2, g3, g4, g5, g6, g7, g8, g9, g10⟩ := dm_g_data h hc hn
  have e := dm_s4_g dm_dt (f := k) (c := c) (v := dI) hc
  have hdt : dm_dt (k c) = 0 := by rcases g2 with e | e <;> rw [e] <;> rfl
  have tr : dm_tr (k c) dI := by
    rcases g2 with e | e
    · exact Or.inl ⟨e, g3, g4⟩
    · exact Or.inr (Or.inl ⟨Or.inl e, by have : dI ≠ 1 := fun z => by have := g5 z; omega
                                         omega⟩)
  have hd : dI = 1 ∨ dI = 2 ∨ dI = 3 := by omega
  have mc : dm_mc (dm_fu k c dI) (dm_i (dm_d n 9 c) 3 c) dI cu → dm_mc k n dI cu := fun g => by
    rcases hd with z | z | z
    · exact dm_mc_mono (by simp (disch := decide) only [dm_dn, dm_in]; omega) (fun _ => Or.inr (by omega)) (by omega) g
    · exact dm_mc_mono (by simp (disch := decide) only [dm_dn, dm_in]; omega) (fun _ => Or.inr (by omega)) (by omega) g
    · rcases g with ⟨_, _, q⟩ | q
      · rw [z] at q e
        have : dm_dt 3 = 1 := rfl
        omega
      · exact Or.inr q
  refine ⟨?_, ?_, tr, mc⟩
  · rcases hd with z | z | z
    · have q := dm_t_data1_11 h hc hn hz z (g5 z)
      rw [z] at q ⊢; exact q
    · rcases g2 with y | y
      · have q := dm_t_data2_11 h hc hn hz z y
        rw [z] at q ⊢; exact q
      · have q := dm_t_data2_12 h hc hn hz z y
        rw [z] at q ⊢; exact q
    · rcases g2 with y | y
      · have q := dm_t_data3_11 h hc hn hz z y
        rw [z] at q ⊢; exact q
      · have q := dm_t_data3_12 h hc hn hz z y
        rw [z] at q ⊢; exact q
  · have e1 := dm_ds (n := n) (t := 9) hc hn
    have e2 := dm_is (n := dm_d n 9 c) (t := 3) hc
    simp (disch := decide) only [dm_phi, dm_in, dm_dn] at e1 e2 ⊢
    omega
theorem dm_g_dataW (h : dm_L0 k gr ac d nd aw n nq R dI dA cu) (hc : c < 4) (hn : 1 ≤ n 9 c) (hz : (dA : Int) + ac c ≠ 0) :
    dm_L0 k (dm_fu gr c 1) (dm_fu ac c (ac c + dA)) d nd aw (dm_d n 9 c) nq R dI dA cu ∧ dm_phi (dm_d n 9 c) nq (dm_fu gr c 1) + 1 ≤ dm_phi n nq gr ∧ dm_tr (k c) (k c) ∧ (dm_mc k (dm_d n 9 c) dI cu → dm_mc k n dI cu) := by
  obtain ⟨g1, g2, g3, g4, g5, g6, g7, g8, g9, g10⟩ := dm_g_data h hc hn
  have := g9 hz
  exact ⟨dm_t_dataW h hc hn hz, dm_p_dataW h hc hn hz, by right; right; right; right; right; omega, fun g => dm_mc_mono (by simp (disch := decide) only [dm_dn]; omega) (fun _ => Or.inr (by omega)) (Nat.le_refl _) g⟩
theorem dm_g_gran (h : dm_L0 k gr ac d nd aw n nq R dI dA cu) (hc : c < 4) (hn : 1 ≤ n 10 c) :
    c = R ∧ k c = 13 ∧ gr c = 0 ∧ 0 ≤ (dA : Int) + ac c ∧ (dA : Int) + ac c ≤ 8 ∧ dm_s4 (n 9) = 0 := by
  obtain ⟨hA, hT, hB⟩ := h
  simp only [dm_LT] at hT
  have a := hA c hc
  have hl := dm_s4_le (f := n 10) hc
  have hr2 : dm_t2 (k c) = 1 := by have := a.2.2.2.2.2.2.1; have h1 := dm_t2_le (k c); omega
  have hcR : c = R := a.2.2.2.2.2.1 hr2
  subst hcR
  have hs := dm_T_src hT (by omega)
  have i8 : ∀ e, e < 4 → n 7 e + n 8 e ≤ 1 := fun e he => (hA e he).2.2.2.2.2.2.2.2.2.2.1
  have hIA : dm_s4 (n 7) + dm_s4 (n 8) ≤ 8 := by
    have := i8 0 (by omega)
    have := i8 1 (by omega)
    have := i8 2 (by omega)
    have := i8 3 (by omega)
    simp only [dm_s4]; omega
  obtain ⟨t1, t2, t3, t4, t5, t6, t7, t8, t9, t10, t11, t12, t13, t14, t15, t16, t17, t18, t19⟩ := hT
  have h14 := t14 (by omega)
  have h16 := t16 (by omega)
  have h7 := a.2.2.2.2.2.2.1
  exact ⟨rfl, h14, by omega, by omega, by omega, by omega⟩
theorem dm_g_granC (h : dm_L0 k gr ac d nd aw n nq R dI dA cu) (hc : c < 4) (hn : 1 ≤ n 10 c) (hz : (dA : Int) + ac c = 0) :
    dm_L0 (dm_fu k c 2) gr (dm_fu ac c 0) d nd aw (dm_i (dm_d n 10 c) 3 c) nq R dI dA cu ∧ dm_phi (dm_i (dm_d n 10 c) 3 c) nq gr + 1 ≤ dm_phi n nq gr ∧ dm_tr (k c) 2 ∧ (dm_mc (dm_fu k c 2) (dm_i (dm_d n 10 c) 3 c) dI cu → dm_mc k n dI cu) := by
  obtain ⟨g1, g2, g3, g4, g5, g6⟩ := dm_g_gran h hc hn
  have e := dm_s4_g dm_dt (f := k) (c := c) (v := 2) hc
  have hdt : dm_dt (k c) = 0 := by rw [g2]; rfl
  exact ⟨dm_t_granC h hc hn hz, dm_p_granC h hc hn hz, Or.inr (Or.inl ⟨Or.inr g2, Or.inl rfl⟩), fun g => dm_mc_mono (by simp (disch := decide) only [dm_dn, dm_in]; omega) (fun _ => Or.inl g6) (by omega) g⟩
theorem dm_g_granW (h : dm_L0 k gr ac d nd aw n nq R dI dA cu) (hc : c < 4) (hn : 1 ≤ n 10 c) (hz : (dA : Int) + ac c ≠ 0) :
    dm_L0 k (dm_fu gr c 1) (dm_fu ac c (ac c + dA)) d nd aw (dm_d n 10 c) nq R dI dA cu ∧ dm_phi (dm_d n 10 c) nq (dm_fu gr c 1) + 1 ≤ dm_phi n nq gr ∧ dm_tr (k c) (k c) ∧ (dm_mc k (dm_d n 10 c) dI cu → dm_mc k n dI cu) := by
  obtain ⟨g1, g2, g3, g4, g5, g6⟩ := dm_g_gran h hc hn
  exact ⟨dm_t_granW h hc hn hz, dm_p_granW h hc hn hz, by right; right; right; right; right; omega, fun g => dm_mc_mono (by simp (disch := decide) only [dm_dn]; omega) (fun _ => Or.inl g6) (Nat.le_refl _) g⟩
theorem dm_g_ack (h : dm_L0 k gr ac d nd aw n nq R dI dA cu) (hc : c < 4) (hn : 1 ≤ n 8 c) :
    R < 4 ∧ (k R = 12 ∨ k R = 13) ∧ gr R ≤ 1 ∧ (gr R = 1 → 1 ≤ ac R ∧ ac R ≤ 8) := by
  obtain ⟨hA, hT, hB⟩ := h
  simp only [dm_LT] at hT
  have hl := dm_s4_le (f := n 8) hc
  have ht1 : dm_s4 (fun x => dm_t2 (k x)) = 1 := by
    have : ¬ dm_s4 (fun x => dm_t2 (k x)) = 0 := fun z => by have := hT.2.2.2.2.2.2.1 z; omega
    have := hT.2.1; omega
  obtain ⟨t1, t2, t3, t4, t5, t6, t7, t8, t9, t10, t11, t12, t13, t14, t15, t16, t17, t18, t19⟩ := hT
  have h8 := t8 ht1
  have h12 := t12 ht1 (by omega)
  have aR := hA R h8.1
  have h7 := aR.2.2.2.2.2.2.1
  have h2 := dm_t2_le (k R)
  have i8 : ∀ e, e < 4 → n 7 e + n 8 e ≤ 1 := fun e he => (hA e he).2.2.2.2.2.2.2.2.2.2.1
  have hIA : dm_s4 (n 7) + dm_s4 (n 8) ≤ 8 := by
    have := i8 0 (by omega)
    have := i8 1 (by omega)
    have := i8 2 (by omega)
    have := i8 3 (by omega)
    simp only [dm_s4]; omega
  have hlg := dm_s4_le (f := gr) h8.1
  refine ⟨h8.1, by omega, by omega, fun z => ?_⟩
  have := t17 (by omega)
  omega
theorem dm_g_ackC (h : dm_L0 k gr ac d nd aw n nq R dI dA cu) (hc : c < 4) (hn : 1 ≤ n 8 c) (hg : gr R = 1) (hz : ac R = 1) :
    dm_L0 (dm_fu k R 2) (dm_fu gr R 0) (dm_fu ac R 0) d nd aw (dm_i (dm_d n 8 c) 3 R) nq R dI dA cu ∧ dm_phi (dm_i (dm_d n 8 c) 3 R) nq (dm_fu gr R 0) + 1 ≤ dm_phi n nq gr ∧ dm_tr (k R) 2 ∧ (dm_mc (dm_fu k R 2) (dm_i (dm_d n 8 c) 3 R) dI cu → dm_mc k n dI cu) := by
  obtain ⟨g1, g2, g3, g4⟩ := dm_g_ack h hc hn
  have e := dm_s4_g dm_dt (f := k) (c := R) (v := 2) g1
  have hdt : dm_dt (k R) = 0 := by rcases g2 with e | e <;> rw [e] <;> rfl
  refine ⟨?_, ?_, Or.inr (Or.inl ⟨g2, Or.inl rfl⟩), fun g => dm_mc_mono (by simp (disch := decide) only [dm_dn, dm_in]; omega) (by simp (disch := decide) only [dm_dn, dm_in]; exact id) (by omega) g⟩
  · rcases g2 with y | y
    · exact dm_t_ackC12 h hc g1 hn hg hz y
    · exact dm_t_ackC13 h hc g1 hn hg hz y
  · rcases g2 with y | y
    · exact dm_p_ackC12 h hc g1 hn hg hz y
    · exact dm_p_ackC13 h hc g1 hn hg hz y
theorem dm_g_ackW (h : dm_L0 k gr ac d nd aw n nq R dI dA cu) (hc : c < 4) (hn : 1 ≤ n 8 c) (hz : gr R = 0 ∨ ac R ≠ 1) :
    dm_L0 k gr (dm_fu ac R (ac R - 1)) d nd aw (dm_d n 8 c) nq R dI dA cu ∧ dm_phi (dm_d n 8 c) nq gr + 1 ≤ dm_phi n nq gr ∧ dm_tr (k R) (k R) ∧ (dm_mc k (dm_d n 8 c) dI cu → dm_mc k n dI cu) := by
  obtain ⟨g1, g2, g3, g4⟩ := dm_g_ack h hc hn
  exact ⟨dm_t_ackW h hc g1 hn hz, dm_p_ackW h hc g1 hn hz, by right; right; right; right; right; omega, fun g => dm_mc_mono (by simp (disch := decide) only [dm_dn]; omega) (by simp (disch := decide) only [dm_dn]; exact id) (Nat.le_refl _) g⟩
theorem dm_g_fwd (h : dm_L0 k gr ac d nd aw n nq R dI dA cu) (hc : c < 4) (hn : 1 ≤ n 5 c + n 6 c) :
    R < 4 ∧ R ≠ c ∧ (k c = 2 ∨ k c = 3 ∨ k c = 8 ∨ k c = 9) ∧ dm_s4 (n 9) = 0 ∧ dm_s4 (n 10) = 0 ∧ (1 ≤ n 5 c → dI = 1) := by
  obtain ⟨hA, hT, hB⟩ := h
  simp only [dm_LT] at hT
  have a := hA c hc
  have hk := dm_ow_k (x := k c) (by have := a.2.2.2.2.2.2.2.2.1; omega)
  have h5 := dm_s4_le (f := n 5) hc
  have h6 := dm_s4_le (f := n 6) hc
  have hs := dm_T_src hT (by omega)
  have h8 := hT.2.2.2.2.2.2.2.1 hs.1
  refine ⟨h8.1, fun z => ?_, hk, by omega, by omega, fun z => ?_⟩
  · rw [z] at h8; omega
  · apply Classical.byContradiction
    intro y
    have := hT.2.2.2.2.2.2.2.2.2.1 hs.1 y
    omega
theorem dm_g_fwds (h : dm_L0 k gr ac d nd aw n nq R dI dA cu) (hc : c < 4) (hn : 1 ≤ n 5 c) {v : Nat} (hv : v = if 7 ≤ dm_st (k c) then 7 else 1) :
    dm_L0 (dm_fu k c v) gr ac d nd aw (dm_i (dm_i (dm_d n 5 c) 9 R) 4 c) nq R dI 0 cu ∧ dm_phi (dm_i (dm_i (dm_d n 5 c) 9 R) 4 c) nq gr + 1 ≤ dm_phi n nq gr ∧ dm_tr (k c) v ∧ (dm_mc (dm_fu k c v) (dm_i (dm_i (dm_d n 5 c) 9 R) 4 c) dI cu → dm_mc k n dI cu) := by
  obtain ⟨g1, g2, g3, g4, g5, g6⟩ := dm_g_fwd h hc (by omega)
  have mc : dm_mc (dm_fu k c v) (dm_i (dm_i (dm_d n 5 c) 9 R) 4 c) dI cu → dm_mc k n dI cu := fun g => by
    rcases g with ⟨q, _⟩ | q
    · have e := dm_is (n := dm_i (dm_d n 5 c) 9 R) (t := 4) hc
      omega
    · exact Or.inr q
  rcases g3 with e | e | e | e
  · have hv1 : v = 1 := by rw [hv, e]; rfl
    rw [hv1] at mc ⊢
    exact ⟨dm_t_fwds2 h hc g1 hn e, dm_p_fwds2 h hc g1 hn e, by right; right; right; right; left; omega, mc⟩
  · have hv1 : v = 1 := by rw [hv, e]; rfl
    rw [hv1] at mc ⊢
    exact ⟨dm_t_fwds3 h hc g1 hn e, dm_p_fwds3 h hc g1 hn e, by right; right; right; right; left; omega, mc⟩
  · have hv1 : v = 7 := by rw [hv, e]; rfl
    rw [hv1] at mc ⊢
    exact ⟨dm_t_fwds8 h hc g1 hn e, dm_p_fwds8 h hc g1 hn e, by right; right; right; left; rw [e]; exact ⟨rfl, Or.inl rfl⟩, mc⟩
  · have hv1 : v = 7 := by rw [hv, e]; rfl
    rw [hv1] at mc ⊢
    exact ⟨dm_t_fwds9 h hc g1 hn e, dm_p_fwds9 h hc g1 hn e, by right; right; right; left; rw [e]; exact ⟨rfl, Or.inl rfl⟩, mc⟩
theorem dm_g_fwdm (h : dm_L0 k gr ac d nd aw n nq R dI dA cu) (hc : c < 4) (hn : 1 ≤ n 6 c) {v I : Nat} (hv : v = if 7 ≤ dm_st (k c) then 10 else 0) (hI : I = if dm_st (k c) = 3 ∨ dm_st (k c) = 9 then 3 else 2) :
    dm_L0 (dm_fu k c v) gr ac d nd aw (dm_i (dm_d n 6 c) 9 R) nq R I 0 cu ∧ dm_phi (dm_i (dm_d n 6 c) 9 R) nq gr + 1 ≤ dm_phi n nq gr ∧ dm_tr (k c) v ∧ (dm_mc (dm_fu k c v) (dm_i (dm_d n 6 c) 9 R) I cu → dm_mc k n dI cu) := by
  obtain ⟨g1, g2, g3, g4, g5, g6⟩ := dm_g_fwd h hc (by omega)
  have e9 := dm_is (n := dm_d n 6 c) (t := 9) g1
  have ed := dm_s4_g dm_dt (f := k) (c := c) (v := v) hc
  have mc2 : I = 2 → dm_dt (k c) = 0 → dm_mc (dm_fu k c v) (dm_i (dm_d n 6 c) 9 R) I cu → dm_mc k n dI cu := fun hi hd g =>
    dm_mc_mono (by simp (disch := decide) only [dm_dn, dm_in]; omega) (fun _ => Or.inl g4) (by omega) g
  have mc3 : I = 3 → dm_mc (dm_fu k c v) (dm_i (dm_d n 6 c) 9 R) I cu → dm_mc k n dI cu := fun hi g => by
    rcases g with ⟨_, q | q, _⟩ | q
    · omega
    · exact absurd hi q
    · exact Or.inr q
  rcases g3 with e | e | e | e
  · have hv1 : v = 0 := by rw [hv, e]; rfl
    have hI1 : I = 2 := by rw [hI, e]; rfl
    have mc := mc2 hI1 (by rw [e]; rfl)
    rw [hv1, hI1] at mc ⊢
    exact ⟨dm_t_fwdm2 h hc g1 hn e, dm_p_fwdm2 h hc g1 hn e, by right; right; right; right; left; omega, mc⟩
  · have hv1 : v = 0 := by rw [hv, e]; rfl
    have hI1 : I = 3 := by rw [hI, e]; rfl
    have mc := mc3 hI1
    rw [hv1, hI1] at mc ⊢
    exact ⟨dm_t_fwdm3 h hc g1 hn e, dm_p_fwdm3 h hc g1 hn e, by right; right; right; right; left; omega, mc⟩
  · have hv1 : v = 10 := by rw [hv, e]; rfl
    have hI1 : I = 2 := by rw [hI, e]; rfl
    have mc := mc2 hI1 (by rw [e]; rfl)
    rw [hv1, hI1] at mc ⊢
    exact ⟨dm_t_fwdm8 h hc g1 hn e, dm_p_fwdm8 h hc g1 hn e, by right; right; right; left; rw [e]; exact ⟨rfl, Or.inl rfl⟩, mc⟩
  · have hv1 : v = 10 := by rw [hv, e]; rfl
    have hI1 : I = 3 := by rw [hI, e]; rfl
    have mc := mc3 hI1
    rw [hv1, hI1] at mc ⊢
    exact ⟨dm_t_fwdm9 h hc g1 hn e, dm_p_fwdm9 h hc g1 hn e, by right; right; right; left; rw [e]; exact ⟨rfl, Or.inl rfl⟩, mc⟩
end
end
section
theorem dm_s4_rep {F G : Nat → Nat} {c b : Nat} (hc : c < 4) (h : ∀ e, e < 4 → e ≠ c → G e = F e) : dm_s4 G + b = dm_s4 (dm_fu F c b) + G c := by
  have e1 := dm_s4_fu (f := F) (c := c) (v := b) hc
  have e2 := dm_s4_fu (f := F) (c := c) (v := G c) hc
  have e3 : dm_s4 (dm_fu F c (G c)) = dm_s4 G := dm_s4_ext fun x hx => by
    by_cases g : x = c
    · subst g; exact dm_fs
    · rw [dm_fn g, h x hx g]
  omega
theorem dm_w_choose {f_msgGetS f_msgGetM f_msgPut f_msgDone f_msgCopyBack f_msgFwdS f_msgFwdM f_msgInv f_msgAck f_msgData f_msgGrant f_msgPutAck f_stFree f_stS f_stE f_stM f_stIS f_stIM f_stSM f_stSI f_stEI f_stMI f_stII f_coreCount f_lineCount f_frameCount f_msgCount f_inType f_inTo f_inLine f_inCore f_inInfo f_inAcks : Int32} {a_opKind a_opAddress a_opOperand a_opResult a_opPerformed a_acc a_closedCount a_nextVictim a_frameLine a_frameState a_frameTarget a_frameAcks a_frameGranted a_frameWords a_memory a_current a_homeOwner a_homeSharers a_homeNextOwner a_homeNextSharers a_homeBusy a_homeAwaits a_queueHead a_queueLength a_queueType a_queueCore a_queueInfo a_queueWords a_msgType a_msgTo a_msgLine a_msgCore a_msgInfo a_msgAcks a_msgWords a_inWords : Nat → Int32} {post : Int32 → Prop} {M : Nat} {p0 : Int32} (hM : 0 < M) (hM2 : M < 128) (K : ∀ s, s < M → post (nI s)) : wpX_choose post (f_msgGetS, f_msgGetM, f_msgPut, f_msgDone, f_msgCopyBack, f_msgFwdS, f_msgFwdM, f_msgInv, f_msgAck, f_msgData, f_msgGrant, f_msgPutAck, f_stFree, f_stS, f_stE, f_stM, f_stIS, f_stIM, f_stSM, f_stSI, f_stEI, f_stMI, f_stII, f_coreCount, f_lineCount, f_frameCount, f_msgCount, f_inType, f_inTo, f_inLine, f_inCore, f_inInfo, f_inAcks, a_opKind, a_opAddress, a_opOperand, a_opResult, a_opPerformed, a_acc, a_closedCount, a_nextVictim, a_frameLine, a_frameState, a_frameTarget, a_frameAcks, a_frameGranted, a_frameWords, a_memory, a_current, a_homeOwner, a_homeSharers, a_homeNextOwner, a_homeNextSharers, a_homeBusy, a_homeAwaits, a_queueHead, a_queueLength, a_queueType, a_queueCore, a_queueInfo, a_queueWords, a_msgType, a_msgTo, a_msgLine, a_msgCore, a_msgInfo, a_msgAcks, a_msgWords, a_inWords) p0 (nI M) := by
  refine br_t (by rw [← nI_0]; exact nI_lt hM (by omega)) ⟨nI_ne0 hM (by omega), ?_⟩
  intro x ex
  have hb := tmod_bounds (a := p0.toInt) (M := (nI M).toInt) (by rw [nI_toInt (by omega)]; omega)
  rw [← rem_toInt, ← ex, nI_toInt (by omega)] at hb
  refine br_c (fun h => ?_) (fun h => nm_e ?_)
  · obtain ⟨j, hj, e⟩ := nI_of (x := x) (Int32.not_lt.mpr h)
    rw [e]; rw [e, nI_toInt hj] at hb
    exact K j (by omega)
  · have h0 : x.toInt < 0 := by
      rw [Int32.le_iff_toInt_le, show (0 : Int32).toInt = 0 from by decide] at h; omega
    have e1 : (x + nI M).toInt = x.toInt + M := by
      rw [Int32.toInt_add, nI_toInt (by omega)]
      exact Int.bmod_eq_of_le (by omega) (by omega)
    obtain ⟨j, hj, e⟩ := nI_of (x := x + nI M) (by rw [Int32.lt_iff_toInt_lt, e1, show (0 : Int32).toInt = 0 from by decide]; omega)
    rw [e]
    rw [e, nI_toInt hj] at e1
    exact K j (by omega)
section
variable {f_msgGetS f_msgGetM f_msgPut f_msgDone f_msgCopyBack f_msgFwdS f_msgFwdM f_msgInv f_msgAck f_msgData f_msgGrant f_msgPutAck f_stFree f_stS f_stE f_stM f_stIS f_stIM f_stSM f_stSI f_stEI f_stMI f_stII f_coreCount f_lineCount f_frameCount f_msgCount f_inType f_inTo f_inLine f_inCore f_inInfo f_inAcks : Int32} {a_opKind a_opAddress a_opOperand a_opResult a_opPerformed a_acc a_closedCount a_nextVictim a_frameLine a_frameState a_frameTarget a_frameAcks a_frameGranted a_frameWords a_memory a_current a_homeOwner a_homeSharers a_homeNextOwner a_homeNextSharers a_homeBusy a_homeAwaits a_queueHead a_queueLength a_queueType a_queueCore a_queueInfo a_queueWords a_msgType a_msgTo a_msgLine a_msgCore a_msgInfo a_msgAcks a_msgWords a_inWords : Nat → Int32} {post : SX → Prop} {c fc : Nat} {sf : Nat → Nat}
theorem dm_w_mr95 {f : Nat} (hc : c < 4) (hfc : fc ≤ 4) (hf : f < fc) (K1 : ∀ nv, nv < fc → wpX_giveUp post (f_msgGetS, f_msgGetM, f_msgPut, f_msgDone, f_msgCopyBack, f_msgFwdS, f_msgFwdM, f_msgInv, f_msgAck, f_msgData, f_msgGrant, f_msgPutAck, f_stFree, f_stS, f_stE, f_stM, f_stIS, f_stIM, f_stSM, f_stSI, f_stEI, f_stMI, f_stII, f_coreCount, f_lineCount, nI fc, f_msgCount, f_inType, f_inTo, f_inLine, f_inCore, f_inInfo, f_inAcks, a_opKind, a_opAddress, a_opOperand, a_opResult, a_opPerformed, a_acc, a_closedCount, upd a_nextVictim c (nI nv), a_frameLine, a_frameState, a_frameTarget, a_frameAcks, a_frameGranted, a_frameWords, a_memory, a_current, a_homeOwner, a_homeSharers, a_homeNextOwner, a_homeNextSharers, a_homeBusy, a_homeAwaits, a_queueHead, a_queueLength, a_queueType, a_queueCore, a_queueInfo, a_queueWords, a_msgType, a_msgTo, a_msgLine, a_msgCore, a_msgInfo, a_msgAcks, a_msgWords, a_inWords) (nI c) (nI (4 * c + f))) : wX_makeRoom_95 post (nI c) (nI f) f_msgGetS f_msgGetM f_msgPut f_msgDone f_msgCopyBack f_msgFwdS f_msgFwdM f_msgInv f_msgAck f_msgData f_msgGrant f_msgPutAck f_stFree f_stS f_stE f_stM f_stIS f_stIM f_stSM f_stSI f_stEI f_stMI f_stII f_coreCount f_lineCount (nI fc) f_msgCount f_inType f_inTo f_inLine f_inCore f_inInfo f_inAcks a_opKind a_opAddress a_opOperand a_opResult a_opPerformed a_acc a_closedCount a_nextVictim a_frameLine a_frameState a_frameTarget a_frameAcks a_frameGranted a_frameWords a_memory a_current a_homeOwner a_homeSharers a_homeNextOwner a_homeNextSharers a_homeBusy a_homeAwaits a_queueHead a_queueLength a_queueType a_queueCore a_queueInfo a_queueWords a_msgType a_msgTo a_msgLine a_msgCore a_msgInfo a_msgAcks a_msgWords a_inWords := by
  have hi : vp_in (nI c) 4 := vp_in_nI (by omega) (by omega)
  have hcc : (nI c).toNatClampNeg = c := nI_clamp (by omega)
  refine br_f (nI_pos (by omega)) ?_
  rw [nI_1]
  refine pk_le fc (f + 1) (fun h => ⟨hi, nm_r (dm_ue hcc) ?_⟩) (fun h => ⟨hi, nm_r (dm_ue hcc) ?_⟩)
  · rw [dm_ix]; exact K1 0 (by omega)
  · rw [dm_ix]; exact K1 (f + 1) (by omega)
theorem dm_w_mr33 {v : Nat} (hc : c < 4) (hfc : fc ≤ 4) (hv : v < fc) (ev : a_nextVictim c = nI v) (hs : ∀ f, f < fc → sf f ≤ 10 ∧ a_frameState (4 * c + f) = nI (sf f))
    (K0 : (∀ f, f < fc → ¬ (1 ≤ sf f ∧ sf f ≤ 3)) → post (f_msgGetS, f_msgGetM, f_msgPut, f_msgDone, f_msgCopyBack, f_msgFwdS, f_msgFwdM, f_msgInv, f_msgAck, f_msgData, f_msgGrant, f_msgPutAck, f_stFree, f_stS, f_stE, f_stM, f_stIS, f_stIM, f_stSM, f_stSI, f_stEI, f_stMI, f_stII, f_coreCount, f_lineCount, nI fc, f_msgCount, f_inType, f_inTo, f_inLine, f_inCore, f_inInfo, f_inAcks, a_opKind, a_opAddress, a_opOperand, a_opResult, a_opPerformed, a_acc, a_closedCount, a_nextVictim, a_frameLine, a_frameState, a_frameTarget, a_frameAcks, a_frameGranted, a_frameWords, a_memory, a_current, a_homeOwner, a_homeSharers, a_homeNextOwner, a_homeNextSharers, a_homeBusy, a_homeAwaits, a_queueHead, a_queueLength, a_queueType, a_queueCore, a_queueInfo, a_queueWords, a_msgType, a_msgTo, a_msgLine, a_msgCore, a_msgInfo, a_msgAcks, a_msgWords, a_inWords))
    (K1 : ∀ f nv, f < fc → nv < fc → 1 ≤ sf f → sf f ≤ 3 → wpX_giveUp post (f_msgGetS, f_msgGetM, f_msgPut, f_msgDone, f_msgCopyBack, f_msgFwdS, f_msgFwdM, f_msgInv, f_msgAck, f_msgData, f_msgGrant, f_msgPutAck, f_stFree, f_stS, f_stE, f_stM, f_stIS, f_stIM, f_stSM, f_stSI, f_stEI, f_stMI, f_stII, f_coreCount, f_lineCount, nI fc, f_msgCount, f_inType, f_inTo, f_inLine, f_inCore, f_inInfo, f_inAcks, a_opKind, a_opAddress, a_opOperand, a_opResult, a_opPerformed, a_acc, a_closedCount, upd a_nextVictim c (nI nv), a_frameLine, a_frameState, a_frameTarget, a_frameAcks, a_frameGranted, a_frameWords, a_memory, a_current, a_homeOwner, a_homeSharers, a_homeNextOwner, a_homeNextSharers, a_homeBusy, a_homeAwaits, a_queueHead, a_queueLength, a_queueType, a_queueCore, a_queueInfo, a_queueWords, a_msgType, a_msgTo, a_msgLine, a_msgCore, a_msgInfo, a_msgAcks, a_msgWords, a_inWords) (nI c) (nI (4 * c + f))) :
    ∀ j i, i + j = fc → (∀ y, y < i → ¬ (1 ≤ sf ((v + y) % fc) ∧ sf ((v + y) % fc) ≤ 3)) → wX_makeRoom_33 post (nI c) f_msgGetS f_msgGetM f_msgPut f_msgDone f_msgCopyBack f_msgFwdS f_msgFwdM f_msgInv f_msgAck f_msgData f_msgGrant f_msgPutAck f_stFree f_stS f_stE f_stM f_stIS f_stIM f_stSM f_stSI f_stEI f_stMI f_stII f_coreCount f_lineCount (nI fc) f_msgCount f_inType f_inTo f_inLine f_inCore f_inInfo f_inAcks a_opKind a_opAddress a_opOperand a_opResult a_opPerformed a_acc a_closedCount a_nextVictim a_frameLine a_frameState a_frameTarget a_frameAcks a_frameGranted a_frameWords a_memory a_current a_homeOwner a_homeSharers a_homeNextOwner a_homeNextSharers a_homeBusy a_homeAwaits a_queueHead a_queueLength a_queueType a_queueCore a_queueInfo a_queueWords a_msgType a_msgTo a_msgLine a_msgCore a_msgInfo a_msgAcks a_msgWords a_inWords (j + 2) (-1) (nI i) := by
  have hi : vp_in (nI c) 4 := vp_in_nI (by omega) (by omega)
  have hcc : (nI c).toNatClampNeg = c := nI_clamp (by omega)
  intro j
  induction j with
  | zero =>
    intro i hij hy
    obtain rfl : i = fc := by omega
    refine br_t (nI_le (Nat.le_refl _) (by omega)) (br_t (by decide) (K0 fun f hf => ?_))
    have q := hy ((f + i - v) % i) (Nat.mod_lt _ (by omega))
    have e : (v + (f + i - v) % i) % i = f := by
      rw [Nat.add_mod_mod, show v + (f + i - v) = f + i from by omega, Nat.add_mod_right, Nat.mod_eq_of_lt hf]
    rw [e] at q; exact q
  | succ j ih =>
    intro i hij hy
    have hmod : ∀ g, (g = v + i ∧ v + i < fc) ∨ (g + fc = v + i) → g < fc ∧ (v + i) % fc = g := fun g hg => by
      rcases hg with ⟨rfl, h⟩ | h
      · exact ⟨h, Nat.mod_eq_of_lt h⟩
      · exact ⟨by omega, by rw [← h, Nat.add_mod_right, Nat.mod_eq_of_lt (by omega)]⟩
    have step : ∀ g, g < fc → (v + i) % fc = g → wX_makeRoom_73 post (wX_makeRoom_33 post (nI c) f_msgGetS f_msgGetM f_msgPut f_msgDone f_msgCopyBack f_msgFwdS f_msgFwdM f_msgInv f_msgAck f_msgData f_msgGrant f_msgPutAck f_stFree f_stS f_stE f_stM f_stIS f_stIM f_stSM f_stSI f_stEI f_stMI f_stII f_coreCount f_lineCount (nI fc) f_msgCount f_inType f_inTo f_inLine f_inCore f_inInfo f_inAcks a_opKind a_opAddress a_opOperand a_opResult a_opPerformed a_acc a_closedCount a_nextVictim a_frameLine a_frameState a_frameTarget a_frameAcks a_frameGranted a_frameWords a_memory a_current a_homeOwner a_homeSharers a_homeNextOwner a_homeNextSharers a_homeBusy a_homeAwaits a_queueHead a_queueLength a_queueType a_queueCore a_queueInfo a_queueWords a_msgType a_msgTo a_msgLine a_msgCore a_msgInfo a_msgAcks a_msgWords a_inWords (j + 2)) (nI c) (-1) (nI i) (nI g) f_msgGetS f_msgGetM f_msgPut f_msgDone f_msgCopyBack f_msgFwdS f_msgFwdM f_msgInv f_msgAck f_msgData f_msgGrant f_msgPutAck f_stFree f_stS f_stE f_stM f_stIS f_stIM f_stSM f_stSI f_stEI f_stMI f_stII f_coreCount f_lineCount (nI fc) f_msgCount f_inType f_inTo f_inLine f_inCore f_inInfo f_inAcks a_opKind a_opAddress a_opOperand a_opResult a_opPerformed a_acc a_closedCount a_nextVictim a_frameLine a_frameState a_frameTarget a_frameAcks a_frameGranted a_frameWords a_memory a_current a_homeOwner a_homeSharers a_homeNextOwner a_homeNextSharers a_homeBusy a_homeAwaits a_queueHead a_queueLength a_queueType a_queueCore a_queueInfo a_queueWords a_msgType a_msgTo a_msgLine a_msgCore a_msgInfo a_msgAcks a_msgWords a_inWords := fun g hg e => by
      unfold wX_makeRoom_73
      rw [dm_ix]
      refine dm_w_stab (by omega) (hs g hg).1 (hs g hg).2 (fun h1 h2 => ?_) (fun h => ?_)
      · refine br_f (by decide) (nm_e ?_)
        rw [nI_1]
        rcases Nat.lt_or_ge (i + 1) fc with h | h
        · exact br_f (nI_ge (by omega) (by omega)) (br_t (nI_pos' (by omega)) (dm_w_mr95 hc hfc hg fun nv hnv => K1 g nv hg hnv h1 h2))
        · exact br_t (nI_le (by omega) (by omega)) (dm_w_mr95 hc hfc hg fun nv hnv => K1 g nv hg hnv h1 h2)
      · refine br_t rfl (nm_r (nI_1 i) (ih (i + 1) (by omega) fun y hy' => ?_))
        by_cases ey : y = i
        · rw [ey, e]; exact h
        · exact hy y (by omega)
    refine br_f (nI_ge (by omega) (by omega)) (br_f (by decide) ⟨hi, nm_r (e' := nI (v + i)) (by rw [hcc, ev, nI_add]) ?_⟩)
    refine pk_lt (v + i) fc (fun h => ?_) (fun h => nm_r (e' := nI (v + i - fc)) (pk_sub h) ?_)
    · obtain ⟨h1, h2⟩ := hmod (v + i) (Or.inl ⟨rfl, h⟩)
      exact step _ h1 h2
    · obtain ⟨h1, h2⟩ := hmod (v + i - fc) (Or.inr (by omega))
      exact step _ h1 h2
theorem dm_w_mr2 {v : Nat} (hc : c < 4) (hfc : fc ≤ 4) (hv : v < fc) (ev : a_nextVictim c = nI v) (hs : ∀ f, f < fc → sf f ≤ 10 ∧ a_frameState (4 * c + f) = nI (sf f))
    (KL : (∃ f, f < fc ∧ 7 ≤ sf f) → post (f_msgGetS, f_msgGetM, f_msgPut, f_msgDone, f_msgCopyBack, f_msgFwdS, f_msgFwdM, f_msgInv, f_msgAck, f_msgData, f_msgGrant, f_msgPutAck, f_stFree, f_stS, f_stE, f_stM, f_stIS, f_stIM, f_stSM, f_stSI, f_stEI, f_stMI, f_stII, f_coreCount, f_lineCount, nI fc, f_msgCount, f_inType, f_inTo, f_inLine, f_inCore, f_inInfo, f_inAcks, a_opKind, a_opAddress, a_opOperand, a_opResult, a_opPerformed, a_acc, a_closedCount, a_nextVictim, a_frameLine, a_frameState, a_frameTarget, a_frameAcks, a_frameGranted, a_frameWords, a_memory, a_current, a_homeOwner, a_homeSharers, a_homeNextOwner, a_homeNextSharers, a_homeBusy, a_homeAwaits, a_queueHead, a_queueLength, a_queueType, a_queueCore, a_queueInfo, a_queueWords, a_msgType, a_msgTo, a_msgLine, a_msgCore, a_msgInfo, a_msgAcks, a_msgWords, a_inWords))
    (K0 : (∀ f, f < fc → ¬ (1 ≤ sf f ∧ sf f ≤ 3)) → post (f_msgGetS, f_msgGetM, f_msgPut, f_msgDone, f_msgCopyBack, f_msgFwdS, f_msgFwdM, f_msgInv, f_msgAck, f_msgData, f_msgGrant, f_msgPutAck, f_stFree, f_stS, f_stE, f_stM, f_stIS, f_stIM, f_stSM, f_stSI, f_stEI, f_stMI, f_stII, f_coreCount, f_lineCount, nI fc, f_msgCount, f_inType, f_inTo, f_inLine, f_inCore, f_inInfo, f_inAcks, a_opKind, a_opAddress, a_opOperand, a_opResult, a_opPerformed, a_acc, a_closedCount, a_nextVictim, a_frameLine, a_frameState, a_frameTarget, a_frameAcks, a_frameGranted, a_frameWords, a_memory, a_current, a_homeOwner, a_homeSharers, a_homeNextOwner, a_homeNextSharers, a_homeBusy, a_homeAwaits, a_queueHead, a_queueLength, a_queueType, a_queueCore, a_queueInfo, a_queueWords, a_msgType, a_msgTo, a_msgLine, a_msgCore, a_msgInfo, a_msgAcks, a_msgWords, a_inWords))
    (K1 : (∀ f, f < fc → sf f < 7) → ∀ f nv, f < fc → nv < fc → 1 ≤ sf f → sf f ≤ 3 → wpX_giveUp post (f_msgGetS, f_msgGetM, f_msgPut, f_msgDone, f_msgCopyBack, f_msgFwdS, f_msgFwdM, f_msgInv, f_msgAck, f_msgData, f_msgGrant, f_msgPutAck, f_stFree, f_stS, f_stE, f_stM, f_stIS, f_stIM, f_stSM, f_stSI, f_stEI, f_stMI, f_stII, f_coreCount, f_lineCount, nI fc, f_msgCount, f_inType, f_inTo, f_inLine, f_inCore, f_inInfo, f_inAcks, a_opKind, a_opAddress, a_opOperand, a_opResult, a_opPerformed, a_acc, a_closedCount, upd a_nextVictim c (nI nv), a_frameLine, a_frameState, a_frameTarget, a_frameAcks, a_frameGranted, a_frameWords, a_memory, a_current, a_homeOwner, a_homeSharers, a_homeNextOwner, a_homeNextSharers, a_homeBusy, a_homeAwaits, a_queueHead, a_queueLength, a_queueType, a_queueCore, a_queueInfo, a_queueWords, a_msgType, a_msgTo, a_msgLine, a_msgCore, a_msgInfo, a_msgAcks, a_msgWords, a_inWords) (nI c) (nI (4 * c + f))) :
    ∀ j i, i + j = fc → (∀ y, y < i → sf y < 7) → wX_makeRoom_2 post (nI c) f_msgGetS f_msgGetM f_msgPut f_msgDone f_msgCopyBack f_msgFwdS f_msgFwdM f_msgInv f_msgAck f_msgData f_msgGrant f_msgPutAck f_stFree f_stS f_stE f_stM f_stIS f_stIM f_stSM f_stSI f_stEI f_stMI f_stII f_coreCount f_lineCount (nI fc) f_msgCount f_inType f_inTo f_inLine f_inCore f_inInfo f_inAcks a_opKind a_opAddress a_opOperand a_opResult a_opPerformed a_acc a_closedCount a_nextVictim a_frameLine a_frameState a_frameTarget a_frameAcks a_frameGranted a_frameWords a_memory a_current a_homeOwner a_homeSharers a_homeNextOwner a_homeNextSharers a_homeBusy a_homeAwaits a_queueHead a_queueLength a_queueType a_queueCore a_queueInfo a_queueWords a_msgType a_msgTo a_msgLine a_msgCore a_msgInfo a_msgAcks a_msgWords a_inWords (j + 1) (nI i) := by
  intro j
  induction j with
  | zero =>
    intro i hij hy
    obtain rfl : i = fc := by omega
    exact br_t (nI_le (Nat.le_refl _) (by omega)) ⟨i + 2, dm_w_mr33 hc hfc hv ev hs K0 (K1 hy) i 0 (by omega) (fun y h => absurd h (Nat.not_lt_zero y))⟩
  | succ j ih =>
    intro i hij hy
    refine br_f (nI_ge (by omega) (by omega)) ?_
    rw [dm_ix]
    refine dm_w_leav (by omega) (hs i (by omega)).1 (hs i (by omega)).2 (fun h => br_f (by decide) (KL ⟨i, by omega, h⟩)) (fun h => br_t rfl (nm_r (nI_1 i) (ih (i + 1) (by omega) fun y hy' => ?_)))
    by_cases e : y = i
    · rw [e]; exact h
    · exact hy y (by omega)
theorem dm_w_mr {v : Nat} (hc : c < 4) (hfc : fc ≤ 4) (hv : v < fc) (ev : a_nextVictim c = nI v) (hs : ∀ f, f < fc → sf f ≤ 10 ∧ a_frameState (4 * c + f) = nI (sf f))
    (KL : (∃ f, f < fc ∧ 7 ≤ sf f) → post (f_msgGetS, f_msgGetM, f_msgPut, f_msgDone, f_msgCopyBack, f_msgFwdS, f_msgFwdM, f_msgInv, f_msgAck, f_msgData, f_msgGrant, f_msgPutAck, f_stFree, f_stS, f_stE, f_stM, f_stIS, f_stIM, f_stSM, f_stSI, f_stEI, f_stMI, f_stII, f_coreCount, f_lineCount, nI fc, f_msgCount, f_inType, f_inTo, f_inLine, f_inCore, f_inInfo, f_inAcks, a_opKind, a_opAddress, a_opOperand, a_opResult, a_opPerformed, a_acc, a_closedCount, a_nextVictim, a_frameLine, a_frameState, a_frameTarget, a_frameAcks, a_frameGranted, a_frameWords, a_memory, a_current, a_homeOwner, a_homeSharers, a_homeNextOwner, a_homeNextSharers, a_homeBusy, a_homeAwaits, a_queueHead, a_queueLength, a_queueType, a_queueCore, a_queueInfo, a_queueWords, a_msgType, a_msgTo, a_msgLine, a_msgCore, a_msgInfo, a_msgAcks, a_msgWords, a_inWords))
    (K0 : (∀ f, f < fc → ¬ (1 ≤ sf f ∧ sf f ≤ 3)) → post (f_msgGetS, f_msgGetM, f_msgPut, f_msgDone, f_msgCopyBack, f_msgFwdS, f_msgFwdM, f_msgInv, f_msgAck, f_msgData, f_msgGrant, f_msgPutAck, f_stFree, f_stS, f_stE, f_stM, f_stIS, f_stIM, f_stSM, f_stSI, f_stEI, f_stMI, f_stII, f_coreCount, f_lineCount, nI fc, f_msgCount, f_inType, f_inTo, f_inLine, f_inCore, f_inInfo, f_inAcks, a_opKind, a_opAddress, a_opOperand, a_opResult, a_opPerformed, a_acc, a_closedCount, a_nextVictim, a_frameLine, a_frameState, a_frameTarget, a_frameAcks, a_frameGranted, a_frameWords, a_memory, a_current, a_homeOwner, a_homeSharers, a_homeNextOwner, a_homeNextSharers, a_homeBusy, a_homeAwaits, a_queueHead, a_queueLength, a_queueType, a_queueCore, a_queueInfo, a_queueWords, a_msgType, a_msgTo, a_msgLine, a_msgCore, a_msgInfo, a_msgAcks, a_msgWords, a_inWords))
    (K1 : (∀ f, f < fc → sf f < 7) → ∀ f nv, f < fc → nv < fc → 1 ≤ sf f → sf f ≤ 3 → wpX_giveUp post (f_msgGetS, f_msgGetM, f_msgPut, f_msgDone, f_msgCopyBack, f_msgFwdS, f_msgFwdM, f_msgInv, f_msgAck, f_msgData, f_msgGrant, f_msgPutAck, f_stFree, f_stS, f_stE, f_stM, f_stIS, f_stIM, f_stSM, f_stSI, f_stEI, f_stMI, f_stII, f_coreCount, f_lineCount, nI fc, f_msgCount, f_inType, f_inTo, f_inLine, f_inCore, f_inInfo, f_inAcks, a_opKind, a_opAddress, a_opOperand, a_opResult, a_opPerformed, a_acc, a_closedCount, upd a_nextVictim c (nI nv), a_frameLine, a_frameState, a_frameTarget, a_frameAcks, a_frameGranted, a_frameWords, a_memory, a_current, a_homeOwner, a_homeSharers, a_homeNextOwner, a_homeNextSharers, a_homeBusy, a_homeAwaits, a_queueHead, a_queueLength, a_queueType, a_queueCore, a_queueInfo, a_queueWords, a_msgType, a_msgTo, a_msgLine, a_msgCore, a_msgInfo, a_msgAcks, a_msgWords, a_inWords) (nI c) (nI (4 * c + f))) : wpX_makeRoom post (f_msgGetS, f_msgGetM, f_msgPut, f_msgDone, f_msgCopyBack, f_msgFwdS, f_msgFwdM, f_msgInv, f_msgAck, f_msgData, f_msgGrant, f_msgPutAck, f_stFree, f_stS, f_stE, f_stM, f_stIS, f_stIM, f_stSM, f_stSI, f_stEI, f_stMI, f_stII, f_coreCount, f_lineCount, nI fc, f_msgCount, f_inType, f_inTo, f_inLine, f_inCore, f_inInfo, f_inAcks, a_opKind, a_opAddress, a_opOperand, a_opResult, a_opPerformed, a_acc, a_closedCount, a_nextVictim, a_frameLine, a_frameState, a_frameTarget, a_frameAcks, a_frameGranted, a_frameWords, a_memory, a_current, a_homeOwner, a_homeSharers, a_homeNextOwner, a_homeNextSharers, a_homeBusy, a_homeAwaits, a_queueHead, a_queueLength, a_queueType, a_queueCore, a_queueInfo, a_queueWords, a_msgType, a_msgTo, a_msgLine, a_msgCore, a_msgInfo, a_msgAcks, a_msgWords, a_inWords) (nI c) :=
  ⟨fc + 1, dm_w_mr2 hc hfc hv ev hs KL K0 K1 fc 0 (by omega) (fun y h => absurd h (Nat.not_lt_zero y))⟩
end
section
variable {cc lc fc M : Nat} {k gr fr d nd : Nat → Nat → Nat} {ac : Nat → Nat → Int} {aw R dI dA cu oc ok oa pf : Nat → Nat} {n nq : Nat → Nat → Nat → Nat} {V : Nat → Nat → Int32} {val : Nat → Int32} {f_msgGetS f_msgGetM f_msgPut f_msgDone f_msgCopyBack f_msgFwdS f_msgFwdM f_msgInv f_msgAck f_msgData f_msgGrant f_msgPutAck f_stFree f_stS f_stE f_stM f_stIS f_stIM f_stSM f_stSI f_stEI f_stMI f_stII f_coreCount f_lineCount f_frameCount f_msgCount f_inType f_inTo f_inLine f_inCore f_inInfo f_inAcks : Int32} {a_opKind a_opAddress a_opOperand a_opResult a_opPerformed a_acc a_closedCount a_nextVictim a_frameLine a_frameState a_frameTarget a_frameAcks a_frameGranted a_frameWords a_memory a_current a_homeOwner a_homeSharers a_homeNextOwner a_homeNextSharers a_homeBusy a_homeAwaits a_queueHead a_queueLength a_queueType a_queueCore a_queueInfo a_queueWords a_msgType a_msgTo a_msgLine a_msgCore a_msgInfo a_msgAcks a_msgWords a_inWords : Nat → Int32} {l c f : Nat} {post : SX → Prop}
theorem dm_o_give (hX : dm_X cc lc fc k gr ac fr d nd aw n nq R dI dA V oc ok oa pf cu val M a_opKind a_opAddress a_opOperand a_opResult a_opPerformed a_acc a_nextVictim a_frameLine a_frameState a_frameTarget a_frameAcks a_frameGranted a_frameWords a_memory a_current a_homeOwner a_homeSharers a_homeNextOwner a_homeNextSharers a_homeBusy a_homeAwaits a_queueHead a_queueLength a_queueType a_queueCore a_queueInfo a_queueWords a_msgType a_msgTo a_msgLine a_msgCore a_msgInfo a_msgAcks a_msgWords) (hL : dm_LL 8 k gr ac d nd aw n nq R dI dA cu) (hc : c < 4) (h1 : 1 ≤ k l c) (h3 : k l c ≤ 3) (hM : M < 128)
    (K : ∀ (w1 w2 w3 w4 w5 w6 w7 w8 : Nat → Int32), dm_X cc lc fc (dm_f2 k l c (k l c + 6)) gr ac fr d nd aw (dm_fu n l (dm_i (n l) 2 c)) nq R dI dA V oc ok oa pf cu val (M + 1) a_opKind a_opAddress a_opOperand a_opResult a_opPerformed a_acc a_nextVictim a_frameLine w1 a_frameTarget a_frameAcks a_frameGranted a_frameWords a_memory a_current a_homeOwner a_homeSharers a_homeNextOwner a_homeNextSharers a_homeBusy a_homeAwaits a_queueHead a_queueLength a_queueType a_queueCore a_queueInfo a_queueWords w2 w3 w4 w5 w6 w7 w8 → dm_LL 8 (dm_f2 k l c (k l c + 6)) gr ac d nd aw (dm_fu n l (dm_i (n l) 2 c)) nq R dI dA cu → post (f_msgGetS, f_msgGetM, f_msgPut, f_msgDone, f_msgCopyBack, f_msgFwdS, f_msgFwdM, f_msgInv, f_msgAck, f_msgData, f_msgGrant, f_msgPutAck, f_stFree, f_stS, f_stE, f_stM, f_stIS, f_stIM, f_stSM, f_stSI, f_stEI, f_stMI, f_stII, nI cc, nI lc, nI fc, nI (M + 1), f_inType, f_inTo, f_inLine, f_inCore, f_inInfo, f_inAcks, a_opKind, a_opAddress, a_opOperand, a_opResult, a_opPerformed, a_acc, a_closedCount, a_nextVictim, a_frameLine, w1, a_frameTarget, a_frameAcks, a_frameGranted, a_frameWords, a_memory, a_current, a_homeOwner, a_homeSharers, a_homeNextOwner, a_homeNextSharers, a_homeBusy, a_homeAwaits, a_queueHead, a_queueLength, a_queueType, a_queueCore, a_queueInfo, a_queueWords, w2, w3, w4, w5, w6, w7, w8, a_inWords)) : wpX_giveUp post (f_msgGetS, f_msgGetM, f_msgPut, f_msgDone, f_msgCopyBack, f_msgFwdS, f_msgFwdM, f_msgInv, f_msgAck, f_msgData, f_msgGrant, f_msgPutAck, f_stFree, f_stS, f_stE, f_stM, f_stIS, f_stIM, f_stSM, f_stSI, f_stEI, f_stMI, f_stII, nI cc, nI lc, nI fc, nI M, f_inType, f_inTo, f_inLine, f_inCore, f_inInfo, f_inAcks, a_opKind, a_opAddress, a_opOperand, a_opResult, a_opPerformed, a_acc, a_closedCount, a_nextVictim, a_frameLine, a_frameState, a_frameTarget, a_frameAcks, a_frameGranted, a_frameWords, a_memory, a_current, a_homeOwner, a_homeSharers, a_homeNextOwner, a_homeNextSharers, a_homeBusy, a_homeAwaits, a_queueHead, a_queueLength, a_queueType, a_queueCore, a_queueInfo, a_queueWords, a_msgType, a_msgTo, a_msgLine, a_msgCore, a_msgInfo, a_msgAcks, a_msgWords, a_inWords) (nI c) (nI (4 * c + fr l c)) := by
  have hF := hX.2.1
  have hk : k l c ≠ 0 := by omega
  obtain ⟨g1, g2, g3, g4, g5, g6, g7⟩ := dm_RF_at hF hk
  have hq : 4 * c + fr l c < 16 := by have := hX.1; omega
  have hv : k l c = 1 ∨ k l c = 2 ∨ k l c = 3 := by omega
  rcases hv with e | e | e
  · have hx := dm_x_give hX hL hc h1 h3 0 a_msgWords (fun _ _ => rfl) (fun z => absurd z (by omega)) (fun z => absurd z (by omega))
    have e' : nI (k l c + 6) = 7 := by rw [e]; rfl
    rw [e', ← g2] at hx
    exact dm_w_give1 hq hM (by rw [g3, e]; decide) (by rw [g3, e]; decide) (K _ _ _ _ _ _ _ _ hx.1 hx.2)
  · have hx := dm_x_give hX hL hc h1 h3 0 a_msgWords (fun _ _ => rfl) (fun z => absurd z (by omega)) (fun _ => by decide)
    have e' : nI (k l c + 6) = 8 := by rw [e]; rfl
    rw [e', ← g2] at hx
    exact dm_w_give2 hq hM (by rw [g3, e]; decide) (by rw [g3, e]; decide) (K _ _ _ _ _ _ _ _ hx.1 hx.2)
  · have hx := dm_x_give hX hL hc h1 h3 1 (dm_cp a_msgWords (4 * M) a_frameWords (4 * (4 * c + fr l c)) 4) (fun _ h => dm_cpo (by omega)) (fun _ => ⟨rfl, fun i hi => dm_cpi hi⟩) (fun z => absurd z (by omega))
    have e' : nI (k l c + 6) = 9 := by rw [e]; rfl
    rw [e', ← g2] at hx
    exact dm_w_give3 hq hM (by rw [g3, e]; decide) (K _ _ _ _ _ _ _ _ hx.1 hx.2)
theorem dm_o_upg (hX : dm_X cc lc fc k gr ac fr d nd aw n nq R dI dA V oc ok oa pf cu val M a_opKind a_opAddress a_opOperand a_opResult a_opPerformed a_acc a_nextVictim a_frameLine a_frameState a_frameTarget a_frameAcks a_frameGranted a_frameWords a_memory a_current a_homeOwner a_homeSharers a_homeNextOwner a_homeNextSharers a_homeBusy a_homeAwaits a_queueHead a_queueLength a_queueType a_queueCore a_queueInfo a_queueWords a_msgType a_msgTo a_msgLine a_msgCore a_msgInfo a_msgAcks a_msgWords) (hL : dm_LL 8 k gr ac d nd aw n nq R dI dA cu) (hc : c < 4) (hk : k l c = 1) (hM : M < 128)
    (K : ∀ (w0 w1 w2 w3 w4 w5 w6 w7 w8 : Nat → Int32), dm_X cc lc fc (dm_f2 k l c 6) gr ac fr d nd aw (dm_fu n l (dm_i (n l) 1 c)) nq R dI dA V oc ok oa pf cu val (M + 1) a_opKind a_opAddress a_opOperand a_opResult a_opPerformed a_acc a_nextVictim a_frameLine w0 a_frameTarget w8 w1 a_frameWords a_memory a_current a_homeOwner a_homeSharers a_homeNextOwner a_homeNextSharers a_homeBusy a_homeAwaits a_queueHead a_queueLength a_queueType a_queueCore a_queueInfo a_queueWords w2 w3 w4 w5 w6 w7 a_msgWords → dm_LL 8 (dm_f2 k l c 6) gr ac d nd aw (dm_fu n l (dm_i (n l) 1 c)) nq R dI dA cu → post (f_msgGetS, f_msgGetM, f_msgPut, f_msgDone, f_msgCopyBack, f_msgFwdS, f_msgFwdM, f_msgInv, f_msgAck, f_msgData, f_msgGrant, f_msgPutAck, f_stFree, f_stS, f_stE, f_stM, f_stIS, f_stIM, f_stSM, f_stSI, f_stEI, f_stMI, f_stII, nI cc, nI lc, nI fc, nI (M + 1), f_inType, f_inTo, f_inLine, f_inCore, f_inInfo, f_inAcks, a_opKind, a_opAddress, a_opOperand, a_opResult, a_opPerformed, a_acc, a_closedCount, a_nextVictim, a_frameLine, w0, a_frameTarget, w8, w1, a_frameWords, a_memory, a_current, a_homeOwner, a_homeSharers, a_homeNextOwner, a_homeNextSharers, a_homeBusy, a_homeAwaits, a_queueHead, a_queueLength, a_queueType, a_queueCore, a_queueInfo, a_queueWords, w2, w3, w4, w5, w6, w7, a_msgWords, a_inWords)) : wpX_upgrade post (f_msgGetS, f_msgGetM, f_msgPut, f_msgDone, f_msgCopyBack, f_msgFwdS, f_msgFwdM, f_msgInv, f_msgAck, f_msgData, f_msgGrant, f_msgPutAck, f_stFree, f_stS, f_stE, f_stM, f_stIS, f_stIM, f_stSM, f_stSI, f_stEI, f_stMI, f_stII, nI cc, nI lc, nI fc, nI M, f_inType, f_inTo, f_inLine, f_inCore, f_inInfo, f_inAcks, a_opKind, a_opAddress, a_opOperand, a_opResult, a_opPerformed, a_acc, a_closedCount, a_nextVictim, a_frameLine, a_frameState, a_frameTarget, a_frameAcks, a_frameGranted, a_frameWords, a_memory, a_current, a_homeOwner, a_homeSharers, a_homeNextOwner, a_homeNextSharers, a_homeBusy, a_homeAwaits, a_queueHead, a_queueLength, a_queueType, a_queueCore, a_queueInfo, a_queueWords, a_msgType, a_msgTo, a_msgLine, a_msgCore, a_msgInfo, a_msgAcks, a_msgWords, a_inWords) (nI c) (nI (4 * c + fr l c)) := by
  have hF := hX.2.1
  have hk0 : k l c ≠ 0 := by omega
  obtain ⟨g1, g2, g3, g4, g5, g6, g7⟩ := dm_RF_at hF hk0
  have hq : 4 * c + fr l c < 16 := by have := hX.1; omega
  have hx := dm_x_upg hX hL hc hk
  rw [← g2] at hx
  exact dm_w_upg hq hM (K _ _ _ _ _ _ _ _ _ hx.1 hx.2)
theorem dm_o_fetch (hX : dm_X cc lc fc k gr ac fr d nd aw n nq R dI dA V oc ok oa pf cu val M a_opKind a_opAddress a_opOperand a_opResult a_opPerformed a_acc a_nextVictim a_frameLine a_frameState a_frameTarget a_frameAcks a_frameGranted a_frameWords a_memory a_current a_homeOwner a_homeSharers a_homeNextOwner a_homeNextSharers a_homeBusy a_homeAwaits a_queueHead a_queueLength a_queueType a_queueCore a_queueInfo a_queueWords a_msgType a_msgTo a_msgLine a_msgCore a_msgInfo a_msgAcks a_msgWords) (hL : dm_LL 8 k gr ac d nd aw n nq R dI dA cu) (hl : l < lc) (hc : c < cc) (hf : f < fc) (e0 : a_frameLine (4 * c + f) = -1) (hk : k l c = 0) (hM : M < 128) {p : Int32} {t : Nat} (ht : (p = 0 ∧ t = 0) ∨ (¬ p = 0 ∧ t = 1))
    (K : ∀ (wl w0 w1 w2 w3 w4 w5 w6 w7 w8 : Nat → Int32), (∀ j, j ≠ 4 * c + f → wl j = a_frameLine j) → dm_X cc lc fc (dm_f2 k l c (4 + t)) gr ac (dm_f2 fr l c f) d nd aw (dm_fu n l (dm_i (n l) t c)) nq R dI dA V oc ok oa pf cu val (M + 1) a_opKind a_opAddress a_opOperand a_opResult a_opPerformed a_acc a_nextVictim wl w0 a_frameTarget w8 w1 a_frameWords a_memory a_current a_homeOwner a_homeSharers a_homeNextOwner a_homeNextSharers a_homeBusy a_homeAwaits a_queueHead a_queueLength a_queueType a_queueCore a_queueInfo a_queueWords w2 w3 w4 w5 w6 w7 a_msgWords → dm_LL 8 (dm_f2 k l c (4 + t)) gr ac d nd aw (dm_fu n l (dm_i (n l) t c)) nq R dI dA cu → post (f_msgGetS, f_msgGetM, f_msgPut, f_msgDone, f_msgCopyBack, f_msgFwdS, f_msgFwdM, f_msgInv, f_msgAck, f_msgData, f_msgGrant, f_msgPutAck, f_stFree, f_stS, f_stE, f_stM, f_stIS, f_stIM, f_stSM, f_stSI, f_stEI, f_stMI, f_stII, nI cc, nI lc, nI fc, nI (M + 1), f_inType, f_inTo, f_inLine, f_inCore, f_inInfo, f_inAcks, a_opKind, a_opAddress, a_opOperand, a_opResult, a_opPerformed, a_acc, a_closedCount, a_nextVictim, wl, w0, a_frameTarget, w8, w1, a_frameWords, a_memory, a_current, a_homeOwner, a_homeSharers, a_homeNextOwner, a_homeNextSharers, a_homeBusy, a_homeAwaits, a_queueHead, a_queueLength, a_queueType, a_queueCore, a_queueInfo, a_queueWords, w2, w3, w4, w5, w6, w7, a_msgWords, a_inWords)) : wpX_fetch post (f_msgGetS, f_msgGetM, f_msgPut, f_msgDone, f_msgCopyBack, f_msgFwdS, f_msgFwdM, f_msgInv, f_msgAck, f_msgData, f_msgGrant, f_msgPutAck, f_stFree, f_stS, f_stE, f_stM, f_stIS, f_stIM, f_stSM, f_stSI, f_stEI, f_stMI, f_stII, nI cc, nI lc, nI fc, nI M, f_inType, f_inTo, f_inLine, f_inCore, f_inInfo, f_inAcks, a_opKind, a_opAddress, a_opOperand, a_opResult, a_opPerformed, a_acc, a_closedCount, a_nextVictim, a_frameLine, a_frameState, a_frameTarget, a_frameAcks, a_frameGranted, a_frameWords, a_memory, a_current, a_homeOwner, a_homeSharers, a_homeNextOwner, a_homeNextSharers, a_homeBusy, a_homeAwaits, a_queueHead, a_queueLength, a_queueType, a_queueCore, a_queueInfo, a_queueWords, a_msgType, a_msgTo, a_msgLine, a_msgCore, a_msgInfo, a_msgAcks, a_msgWords, a_inWords) (nI c) (nI (4 * c + f)) (nI l) p := by
  have hq : 4 * c + f < 16 := by have := hX.1; omega
  rcases ht with ⟨rfl, rfl⟩ | ⟨hp, rfl⟩
  · have hx := dm_x_fetch hX hL hl hc hf e0 hk (t := 0) (by omega)
    exact dm_w_fetch0 hq hM (K _ _ _ _ _ _ _ _ _ _ (fun j hj => pk_un hj) hx.1 hx.2)
  · have hx := dm_x_fetch hX hL hl hc hf e0 hk (t := 1) (by omega)
    exact dm_w_fetch1 hq hM hp (K _ _ _ _ _ _ _ _ _ _ (fun j hj => pk_un hj) hx.1 hx.2)
end
end
section
theorem dm_st10 {x : Nat} (h : x ≤ 17) : dm_st x ≤ 10 := by rw [dm_st]; split <;> omega
theorem dm_stlv {x : Nat} (h : x ≤ 17) (h2 : 7 ≤ dm_st x) : dm_lv x = 1 := by
  by_cases g : x ≤ 10
  · rw [dm_st, if_pos g] at h2; rw [dm_lv, if_pos (by omega)]
  · rw [dm_st, if_neg g] at h2; rw [dm_lv, if_pos (by omega)]
theorem dm_stlv0 {x : Nat} (h : x ≤ 17) (h2 : dm_st x < 7) : dm_lv x = 0 := by
  by_cases g : x ≤ 10
  · rw [dm_st, if_pos g] at h2; rw [dm_lv, if_neg (by omega)]
  · rw [dm_st, if_neg g] at h2; rw [dm_lv, if_neg (by omega)]
theorem dm_stsb {x : Nat} (h : x ≤ 17) (h2 : 1 ≤ dm_st x) (h3 : dm_st x ≤ 3) : x = dm_st x := by
  by_cases g : x ≤ 10
  · rw [dm_st, if_pos g]
  · rw [dm_st, if_neg g] at h2 h3; omega
theorem dm_stsb0 {x : Nat} (h : x ≤ 17) (h2 : ¬ (1 ≤ dm_st x ∧ dm_st x ≤ 3)) : dm_sb x = 0 := by
  by_cases g : x ≤ 10
  · rw [dm_st, if_pos g] at h2; rw [dm_sb, if_neg (by omega)]
  · rw [dm_sb, if_neg (by omega)]
section
variable {cc lc fc : Nat} {oc ok oa cu : Nat → Nat} {val y_acc y_opn y_fin y_cur : Nat → Int32} {gl N : Nat} {k gr fr d nd : Nat → Nat → Nat} {ac : Nat → Nat → Int} {aw R dI dA pf : Nat → Nat} {n nq : Nat → Nat → Nat → Nat} {V : Nat → Nat → Int32} {M c b l x v w : Nat} {f_msgGetS f_msgGetM f_msgPut f_msgDone f_msgCopyBack f_msgFwdS f_msgFwdM f_msgInv f_msgAck f_msgData f_msgGrant f_msgPutAck f_stFree f_stS f_stE f_stM f_stIS f_stIM f_stSM f_stSI f_stEI f_stMI f_stII f_coreCount f_lineCount f_frameCount f_msgCount f_inType f_inTo f_inLine f_inCore f_inInfo f_inAcks : Int32} {a_opKind a_opAddress a_opOperand a_opResult a_opPerformed a_acc a_closedCount a_nextVictim a_frameLine a_frameState a_frameTarget a_frameAcks a_frameGranted a_frameWords a_memory a_current a_homeOwner a_homeSharers a_homeNextOwner a_homeNextSharers a_homeBusy a_homeAwaits a_queueHead a_queueLength a_queueType a_queueCore a_queueInfo a_queueWords a_msgType a_msgTo a_msgLine a_msgCore a_msgInfo a_msgAcks a_msgWords a_inWords : Nat → Int32} {post : SX → Prop}
theorem dm_Phi_n {N' : Nat → Nat → Nat} (hl : l < 8) (h : dm_phi N' (nq l) (gr l) ≤ dm_phi (n l) (nq l) (gr l) + w) : dm_Phi (dm_fu n l N') nq gr ≤ dm_Phi n nq gr + w := by
  have q := dm_Phi_set (n := n) (nq := nq) (gr := gr) (N := N') (Q := nq l) (G := gr l) hl
  rw [dm_fself, dm_fself] at q
  omega
theorem dm_M80 (hX : dm_X cc lc fc k gr ac fr d nd aw n nq R dI dA V oc ok oa pf cu val M a_opKind a_opAddress a_opOperand a_opResult a_opPerformed a_acc a_nextVictim a_frameLine a_frameState a_frameTarget a_frameAcks a_frameGranted a_frameWords a_memory a_current a_homeOwner a_homeSharers a_homeNextOwner a_homeNextSharers a_homeBusy a_homeAwaits a_queueHead a_queueLength a_queueType a_queueCore a_queueInfo a_queueWords a_msgType a_msgTo a_msgLine a_msgCore a_msgInfo a_msgAcks a_msgWords) (hL : dm_LL 8 k gr ac d nd aw n nq R dI dA cu) : M ≤ 80 := by
  have h := dm_M_le hL
  have := hX.2.2.2.2.2.1.1
  omega
/-- pursue does nothing -/
theorem dm_pu_none (K : ∀ u', dm_IB cc lc fc oc ok oa cu val y_acc y_opn y_fin y_cur gl N u' → post u') (hX : dm_X cc lc fc k gr ac fr d nd aw n nq R dI dA V oc ok oa pf cu val M a_opKind a_opAddress a_opOperand a_opResult a_opPerformed a_acc a_nextVictim a_frameLine a_frameState a_frameTarget a_frameAcks a_frameGranted a_frameWords a_memory a_current a_homeOwner a_homeSharers a_homeNextOwner a_homeNextSharers a_homeBusy a_homeAwaits a_queueHead a_queueLength a_queueType a_queueCore a_queueInfo a_queueWords a_msgType a_msgTo a_msgLine a_msgCore a_msgInfo a_msgAcks a_msgWords) (hL : dm_LL 8 k gr ac d nd aw n nq R dI dA cu) (hc : c < 4) (hp : ∀ e, e < 4 → e ≠ c → dm_PU fc oc ok oa pf k a_frameLine e) (hN : dm_Phi n nq gr + dm_s4 (dm_fu (dm_Psi oc ok oa pf k) c b) ≤ N) (hgn : ∀ e, e < 4 → dm_gn (k gl e))
    (e1 : a_acc = y_acc) (e2 : a_opOperand = y_opn) (e3 : a_closedCount = y_fin) (e4 : a_current = y_cur) (hpc : dm_PU fc oc ok oa pf k a_frameLine c) (hb : dm_Psi oc ok oa pf k c ≤ b) : post (f_msgGetS, f_msgGetM, f_msgPut, f_msgDone, f_msgCopyBack, f_msgFwdS, f_msgFwdM, f_msgInv, f_msgAck, f_msgData, f_msgGrant, f_msgPutAck, f_stFree, f_stS, f_stE, f_stM, f_stIS, f_stIM, f_stSM, f_stSI, f_stEI, f_stMI, f_stII, nI cc, nI lc, nI fc, nI M, f_inType, f_inTo, f_inLine, f_inCore, f_inInfo, f_inAcks, a_opKind, a_opAddress, a_opOperand, a_opResult, a_opPerformed, a_acc, a_closedCount, a_nextVictim, a_frameLine, a_frameState, a_frameTarget, a_frameAcks, a_frameGranted, a_frameWords, a_memory, a_current, a_homeOwner, a_homeSharers, a_homeNextOwner, a_homeNextSharers, a_homeBusy, a_homeAwaits, a_queueHead, a_queueLength, a_queueType, a_queueCore, a_queueInfo, a_queueWords, a_msgType, a_msgTo, a_msgLine, a_msgCore, a_msgInfo, a_msgAcks, a_msgWords, a_inWords) := by
  refine K _ (dm_IB_mk hX hL (fun e he => ?_) ?_ hgn e1 e2 e3 e4)
  · by_cases h : e = c
    · subst h; exact hpc
    · exact hp e he h
  · have := dm_s4_rep (F := dm_Psi oc ok oa pf k) (G := dm_Psi oc ok oa pf k) (b := b) hc (fun _ _ _ => rfl)
    omega
/-- pursue asks for a copy -/
theorem dm_pu_fetch (K : ∀ u', dm_IB cc lc fc oc ok oa cu val y_acc y_opn y_fin y_cur gl N u' → post u') (hX : dm_X cc lc fc k gr ac fr d nd aw n nq R dI dA V oc ok oa pf cu val M a_opKind a_opAddress a_opOperand a_opResult a_opPerformed a_acc a_nextVictim a_frameLine a_frameState a_frameTarget a_frameAcks a_frameGranted a_frameWords a_memory a_current a_homeOwner a_homeSharers a_homeNextOwner a_homeNextSharers a_homeBusy a_homeAwaits a_queueHead a_queueLength a_queueType a_queueCore a_queueInfo a_queueWords a_msgType a_msgTo a_msgLine a_msgCore a_msgInfo a_msgAcks a_msgWords) (hL : dm_LL 8 k gr ac d nd aw n nq R dI dA cu) (hc : c < cc) (hp : ∀ e, e < 4 → e ≠ c → dm_PU fc oc ok oa pf k a_frameLine e) (hN : dm_Phi n nq gr + dm_s4 (dm_fu (dm_Psi oc ok oa pf k) c b) ≤ N) (hgn : ∀ e, e < 4 → dm_gn (k gl e))
    (e1 : a_acc = y_acc) (e2 : a_opOperand = y_opn) (e3 : a_closedCount = y_fin) (e4 : a_current = y_cur) (hg : gl ≠ l) (ho : oc c = 1) (hf : pf c = 0) (hl : oa c / 4 = l) (hll : l < lc) {p : Int32} {t f : Nat} (ht : (p = 0 ∧ t = 0) ∨ (¬ p = 0 ∧ t = 1)) (hko : t = 0 → ok c = 0) (hk : k l c = 0) (hff : f < fc) (e0 : a_frameLine (4 * c + f) = -1) (hb : 9 ≤ b) : wpX_fetch post (f_msgGetS, f_msgGetM, f_msgPut, f_msgDone, f_msgCopyBack, f_msgFwdS, f_msgFwdM, f_msgInv, f_msgAck, f_msgData, f_msgGrant, f_msgPutAck, f_stFree, f_stS, f_stE, f_stM, f_stIS, f_stIM, f_stSM, f_stSI, f_stEI, f_stMI, f_stII, nI cc, nI lc, nI fc, nI M, f_inType, f_inTo, f_inLine, f_inCore, f_inInfo, f_inAcks, a_opKind, a_opAddress, a_opOperand, a_opResult, a_opPerformed, a_acc, a_closedCount, a_nextVictim, a_frameLine, a_frameState, a_frameTarget, a_frameAcks, a_frameGranted, a_frameWords, a_memory, a_current, a_homeOwner, a_homeSharers, a_homeNextOwner, a_homeNextSharers, a_homeBusy, a_homeAwaits, a_queueHead, a_queueLength, a_queueType, a_queueCore, a_queueInfo, a_queueWords, a_msgType, a_msgTo, a_msgLine, a_msgCore, a_msgInfo, a_msgAcks, a_msgWords, a_inWords) (nI c) (nI (4 * c + f)) (nI l) p := by
  have hM := dm_M80 hX hL
  have hc4 : c < 4 := by have := hX.1; omega
  have hfc : fc ≤ 4 := by have := hX.1; omega
  have hl8 : l < 8 := by have := hX.1; omega
  have ht2 : t < 2 := by omega
  refine dm_o_fetch hX hL hll hc hff e0 hk (by omega) ht (fun wl w0 w1 w2 w3 w4 w5 w6 w7 w8 hw hX' hL' => K _ (dm_IB_mk hX' hL' (fun e he => ?_) ?_ (fun e he => ?_) e1 e2 e3 e4))
  · by_cases h : e = c
    · subst h
      intro _ _
      rw [hl, dm_f2v, if_pos ⟨rfl, rfl⟩]
      left; omega
    · exact dm_PU_ne h (fun f' hf' => hw _ (by omega)) (hp e he h)
  · have q1 := dm_Phi_n (n := n) (nq := nq) (gr := gr) (N' := dm_i (n l) t c) hl8 (dm_t_fetch (hL l hl8).1 hc4 hk ht2).2
    have q2 := dm_s4_rep (F := dm_Psi oc ok oa pf k) (G := dm_Psi oc ok oa pf (dm_f2 k l c (4 + t))) (b := b) hc4 (fun e _ he => dm_Psi_ne he)
    have q3 : dm_Psi oc ok oa pf (dm_f2 k l c (4 + t)) c = 0 := by
      rw [dm_Psi, dm_psi, if_pos ⟨ho, hf⟩, hl, dm_f2s, dm_fs, if_pos (by omega)]
    omega
  · rw [dm_f2n hg]; exact hgn e he
/-- pursue asks for permission -/
theorem dm_pu_upg (K : ∀ u', dm_IB cc lc fc oc ok oa cu val y_acc y_opn y_fin y_cur gl N u' → post u') (hX : dm_X cc lc fc k gr ac fr d nd aw n nq R dI dA V oc ok oa pf cu val M a_opKind a_opAddress a_opOperand a_opResult a_opPerformed a_acc a_nextVictim a_frameLine a_frameState a_frameTarget a_frameAcks a_frameGranted a_frameWords a_memory a_current a_homeOwner a_homeSharers a_homeNextOwner a_homeNextSharers a_homeBusy a_homeAwaits a_queueHead a_queueLength a_queueType a_queueCore a_queueInfo a_queueWords a_msgType a_msgTo a_msgLine a_msgCore a_msgInfo a_msgAcks a_msgWords) (hL : dm_LL 8 k gr ac d nd aw n nq R dI dA cu) (hc : c < 4) (hp : ∀ e, e < 4 → e ≠ c → dm_PU fc oc ok oa pf k a_frameLine e) (hN : dm_Phi n nq gr + dm_s4 (dm_fu (dm_Psi oc ok oa pf k) c b) ≤ N) (hgn : ∀ e, e < 4 → dm_gn (k gl e))
    (e1 : a_acc = y_acc) (e2 : a_opOperand = y_opn) (e3 : a_closedCount = y_fin) (e4 : a_current = y_cur) (hg : gl ≠ l) (ho : oc c = 1) (hf : pf c = 0) (hl : oa c / 4 = l) (hko : ok c ≠ 0) (hk : k l c = 1) (hb : 9 ≤ b) : wpX_upgrade post (f_msgGetS, f_msgGetM, f_msgPut, f_msgDone, f_msgCopyBack, f_msgFwdS, f_msgFwdM, f_msgInv, f_msgAck, f_msgData, f_msgGrant, f_msgPutAck, f_stFree, f_stS, f_stE, f_stM, f_stIS, f_stIM, f_stSM, f_stSI, f_stEI, f_stMI, f_stII, nI cc, nI lc, nI fc, nI M, f_inType, f_inTo, f_inLine, f_inCore, f_inInfo, f_inAcks, a_opKind, a_opAddress, a_opOperand, a_opResult, a_opPerformed, a_acc, a_closedCount, a_nextVictim, a_frameLine, a_frameState, a_frameTarget, a_frameAcks, a_frameGranted, a_frameWords, a_memory, a_current, a_homeOwner, a_homeSharers, a_homeNextOwner, a_homeNextSharers, a_homeBusy, a_homeAwaits, a_queueHead, a_queueLength, a_queueType, a_queueCore, a_queueInfo, a_queueWords, a_msgType, a_msgTo, a_msgLine, a_msgCore, a_msgInfo, a_msgAcks, a_msgWords, a_inWords) (nI c) (nI (4 * c + fr l c)) := by
  have hM := dm_M80 hX hL
  have hl8 : l < 8 := by
    have h1 := (dm_RF_lt hX.2.1 (l := l) (c := c) (by omega)).1
    have := hX.1; omega
  refine dm_o_upg hX hL hc hk (by omega) (fun w0 w1 w2 w3 w4 w5 w6 w7 w8 hX' hL' => K _ (dm_IB_mk hX' hL' (fun e he => ?_) ?_ (fun e he => ?_) e1 e2 e3 e4))
  · by_cases h : e = c
    · subst h
      intro _ _
      rw [hl, dm_f2v, if_pos ⟨rfl, rfl⟩]
      exact Or.inr (Or.inl ⟨rfl, hko⟩)
    · exact dm_PU_ne h (fun f' hf' => rfl) (hp e he h)
  · have q1 := dm_Phi_n (n := n) (nq := nq) (gr := gr) (N' := dm_i (n l) 1 c) (w := 9) hl8 (by have := dm_p_upg (hL l hl8).1 hc hk; omega)
    have q2 := dm_s4_rep (F := dm_Psi oc ok oa pf k) (G := dm_Psi oc ok oa pf (dm_f2 k l c 6)) (b := b) hc (fun e _ he => dm_Psi_ne he)
    have q3 : dm_Psi oc ok oa pf (dm_f2 k l c 6) c = 0 := by
      rw [dm_Psi, dm_psi, if_pos ⟨ho, hf⟩, hl, dm_f2s, dm_fs, if_pos (by omega)]
    omega
  · rw [dm_f2n hg]; exact hgn e he
theorem dm_PU_pf {FL : Nat → Int32} {e : Nat} (h : e ≠ c) (hp : dm_PU fc oc ok oa pf k FL e) : dm_PU fc oc ok oa (dm_fu pf c 1) k FL e := by
  intro h1 h2
  rw [dm_fn h] at h2
  exact hp h1 h2
theorem dm_Psi_pf {e : Nat} (h : e ≠ c) : dm_Psi oc ok oa (dm_fu pf c 1) k e = dm_Psi oc ok oa pf k e := by
  simp only [dm_Psi, dm_fn h]
theorem dm_Psi_pf0 : dm_Psi oc ok oa (dm_fu pf c 1) k c = 0 := by
  simp only [dm_Psi, dm_fs, dm_psi]
  rw [if_neg (by omega)]
/-- pursue performs -/
theorem dm_pu_perf (K : ∀ u', dm_IB cc lc fc oc ok oa cu val y_acc y_opn y_fin y_cur gl N u' → post u') (hX : dm_X cc lc fc k gr ac fr d nd aw n nq R dI dA V oc ok oa pf cu val M a_opKind a_opAddress a_opOperand a_opResult a_opPerformed a_acc a_nextVictim a_frameLine a_frameState a_frameTarget a_frameAcks a_frameGranted a_frameWords a_memory a_current a_homeOwner a_homeSharers a_homeNextOwner a_homeNextSharers a_homeBusy a_homeAwaits a_queueHead a_queueLength a_queueType a_queueCore a_queueInfo a_queueWords a_msgType a_msgTo a_msgLine a_msgCore a_msgInfo a_msgAcks a_msgWords) (hL : dm_LL 8 k gr ac d nd aw n nq R dI dA cu) (hc : c < 4) (hp : ∀ e, e < 4 → e ≠ c → dm_PU fc oc ok oa pf k a_frameLine e) (hN : dm_Phi n nq gr + dm_s4 (dm_fu (dm_Psi oc ok oa pf k) c b) ≤ N) (hgn : ∀ e, e < 4 → dm_gn (k gl e))
    (e1 : a_acc = y_acc) (e2 : a_opOperand = y_opn) (e3 : a_closedCount = y_fin) (e4 : a_current = y_cur) (hg : gl ≠ l) (ho : oc c = 1) (hf : pf c = 0) (hl : oa c / 4 = l) (hk : (ok c = 0 ∧ dm_ro (k l c) ≠ 0) ∨ (ok c ≠ 0 ∧ (k l c = 2 ∨ k l c = 3))) : wpX_perform post (f_msgGetS, f_msgGetM, f_msgPut, f_msgDone, f_msgCopyBack, f_msgFwdS, f_msgFwdM, f_msgInv, f_msgAck, f_msgData, f_msgGrant, f_msgPutAck, f_stFree, f_stS, f_stE, f_stM, f_stIS, f_stIM, f_stSM, f_stSI, f_stEI, f_stMI, f_stII, nI cc, nI lc, nI fc, nI M, f_inType, f_inTo, f_inLine, f_inCore, f_inInfo, f_inAcks, a_opKind, a_opAddress, a_opOperand, a_opResult, a_opPerformed, a_acc, a_closedCount, a_nextVictim, a_frameLine, a_frameState, a_frameTarget, a_frameAcks, a_frameGranted, a_frameWords, a_memory, a_current, a_homeOwner, a_homeSharers, a_homeNextOwner, a_homeNextSharers, a_homeBusy, a_homeAwaits, a_queueHead, a_queueLength, a_queueType, a_queueCore, a_queueInfo, a_queueWords, a_msgType, a_msgTo, a_msgLine, a_msgCore, a_msgInfo, a_msgAcks, a_msgWords, a_inWords) (nI c) (nI (4 * c + fr l c)) := by
  have hk0 : k l c ≠ 0 := by
    rcases hk with h | h
    · intro z; rw [z] at h; exact h.2 rfl
    · omega
  obtain ⟨g1, g2, g3, g4, g5, g6, g7⟩ := dm_RF_at hX.2.1 hk0
  have hq : 4 * c + fr l c < 16 := by have := hX.1; omega
  have hO := (hX.2.2.2.2.2.2.1 c hc).2.2.2.1 ho
  have hlc : lc ≤ 8 := hX.1.2.2.2.1
  have hr : dm_ro (k l c) ≠ 0 := by
    rcases hk with h | ⟨_, h | h⟩
    · exact h.2
    · rw [h]; decide
    · rw [h]; decide
  have hw := g7 (Or.inl hr) (oa c % 4) (by omega)
  refine dm_w_perf hc hq hO.2.1 (by omega) hO.2.2.2.1 hO.2.2.2.2 rfl ?_
  rcases hk with ⟨h0, h⟩ | ⟨h0, h⟩
  · have hx := dm_x_perfL hX hc ho hf h0 hl h
    rw [h0, if_pos rfl, dm_app0, dm_upd_id]
    have er : dm_res 0 (a_opOperand c) (a_frameWords (4 * (4 * c + fr l c) + oa c % 4)) = a_frameWords (4 * (4 * c + fr l c) + oa c % 4) := by rw [dm_res, if_neg (by omega)]
    rw [er]
    refine K _ (dm_IB_mk hx hL (fun e he => ?_) ?_ hgn e1 e2 e3 e4)
    · by_cases g : e = c
      · intro _ z; rw [g, dm_fs] at z; exact absurd z (by omega)
      · exact dm_PU_pf g (hp e he g)
    · have q2 := dm_s4_rep (F := dm_Psi oc ok oa pf k) (G := dm_Psi oc ok oa (dm_fu pf c 1) k) (b := b) hc (fun e _ he => dm_Psi_pf he)
      have q3 := dm_Psi_pf0 (oc := oc) (ok := ok) (oa := oa) (pf := pf) (k := k) (c := c)
      omega
  · have hx := dm_x_perfW hX hL hc ho hf h0 hl h
    rw [if_neg h0, hw]
    refine K _ (dm_IB_mk hx.1 hx.2 (fun e he => ?_) ?_ (fun e he => ?_) e1 e2 e3 e4)
    · by_cases g : e = c
      · intro _ z; rw [g, dm_fs] at z; exact absurd z (by omega)
      · exact dm_PU_pf g (dm_PU_ne g (fun _ _ => rfl) (hp e he g))
    · have q2 := dm_s4_rep (F := dm_Psi oc ok oa pf k) (G := dm_Psi oc ok oa (dm_fu pf c 1) (dm_f2 k l c 3)) (b := b) hc (fun e _ he => (dm_Psi_pf he).trans (dm_Psi_ne he))
      have q3 := dm_Psi_pf0 (oc := oc) (ok := ok) (oa := oa) (pf := pf) (k := dm_f2 k l c 3) (c := c)
      omega
    · rw [dm_f2n hg]; exact hgn e he
/-- pursue makes room -/
theorem dm_pu_room (K : ∀ u', dm_IB cc lc fc oc ok oa cu val y_acc y_opn y_fin y_cur gl N u' → post u') (hX : dm_X cc lc fc k gr ac fr d nd aw n nq R dI dA V oc ok oa pf cu val M a_opKind a_opAddress a_opOperand a_opResult a_opPerformed a_acc a_nextVictim a_frameLine a_frameState a_frameTarget a_frameAcks a_frameGranted a_frameWords a_memory a_current a_homeOwner a_homeSharers a_homeNextOwner a_homeNextSharers a_homeBusy a_homeAwaits a_queueHead a_queueLength a_queueType a_queueCore a_queueInfo a_queueWords a_msgType a_msgTo a_msgLine a_msgCore a_msgInfo a_msgAcks a_msgWords) (hL : dm_LL 8 k gr ac d nd aw n nq R dI dA cu) (hc : c < cc) (hp : ∀ e, e < 4 → e ≠ c → dm_PU fc oc ok oa pf k a_frameLine e) (hN : dm_Phi n nq gr + dm_s4 (dm_fu (dm_Psi oc ok oa pf k) c b) ≤ N) (hgn : ∀ e, e < 4 → dm_gn (k gl e))
    (e1 : a_acc = y_acc) (e2 : a_opOperand = y_opn) (e3 : a_closedCount = y_fin) (e4 : a_current = y_cur) (ho : oc c = 1) (hf : pf c = 0) (hl : oa c / 4 = l) (hk : k l c = 0) (hfr : ∀ f, f < fc → a_frameLine (4 * c + f) ≠ -1) (hb9 : 9 ≤ b) (hb11 : dm_s8 (fun l => dm_lv (k l c)) = 0 → 11 ≤ b) : wpX_makeRoom post (f_msgGetS, f_msgGetM, f_msgPut, f_msgDone, f_msgCopyBack, f_msgFwdS, f_msgFwdM, f_msgInv, f_msgAck, f_msgData, f_msgGrant, f_msgPutAck, f_stFree, f_stS, f_stE, f_stM, f_stIS, f_stIM, f_stSM, f_stSI, f_stEI, f_stMI, f_stII, nI cc, nI lc, nI fc, nI M, f_inType, f_inTo, f_inLine, f_inCore, f_inInfo, f_inAcks, a_opKind, a_opAddress, a_opOperand, a_opResult, a_opPerformed, a_acc, a_closedCount, a_nextVictim, a_frameLine, a_frameState, a_frameTarget, a_frameAcks, a_frameGranted, a_frameWords, a_memory, a_current, a_homeOwner, a_homeSharers, a_homeNextOwner, a_homeNextSharers, a_homeBusy, a_homeAwaits, a_queueHead, a_queueLength, a_queueType, a_queueCore, a_queueInfo, a_queueWords, a_msgType, a_msgTo, a_msgLine, a_msgCore, a_msgInfo, a_msgAcks, a_msgWords, a_inWords) (nI c) := by
  have hM := dm_M80 hX hL
  have hc4 : c < 4 := by have := hX.1; omega
  have hfc : fc ≤ 4 := hX.1.2.2.2.2.2
  have hlc : lc ≤ 8 := hX.1.2.2.2.1
  have hF := hX.2.1
  obtain ⟨v, hv, ev⟩ := hX.2.2.2.2.2.2.2.2.2 c hc
  have hfx : ∀ f, f < fc → ∃ x, x < lc ∧ k x c ≠ 0 ∧ fr x c = f := fun f h => (hF.2.2 c f hc h).resolve_left (hfr f h)
  have hk17 : ∀ x, x < lc → k x c ≤ 17 := fun x hx => ((hL x (by omega)).1.1 c hc4).1
  have hex : ∃ sf : Nat → Nat, ∀ f, f < fc → ∃ x, x < lc ∧ k x c ≠ 0 ∧ fr x c = f ∧ sf f = dm_st (k x c) := by
    refine ⟨fun f => if h : f < fc then dm_st (k (hfx f h).choose c) else 0, fun f h => ⟨(hfx f h).choose, (hfx f h).choose_spec.1, (hfx f h).choose_spec.2.1, (hfx f h).choose_spec.2.2, ?_⟩⟩
    exact dif_pos h
  obtain ⟨sf, hsf⟩ := hex
  refine dm_w_mr (sf := sf) hc4 hfc hv ev (fun f hff => ?_) (fun h => ?_) (fun h => ?_) (fun h7 f nv hff hnv h1 h3 => ?_)
  · obtain ⟨x, hx, h1, h2, h3⟩ := hsf f hff
    refine ⟨by rw [h3]; exact dm_st10 (hk17 x hx), ?_⟩
    have := (dm_RF_at hF h1).2.2.1
    rw [h2] at this; rw [h3]; exact this
  · obtain ⟨f, hff, h7⟩ := h
    obtain ⟨x, hx, h1, h2, h3⟩ := hsf f hff
    have hlv : 1 ≤ dm_s8 (fun l => dm_lv (k l c)) := by
      have a : dm_lv (k x c) ≤ dm_s8 (fun l => dm_lv (k l c)) := dm_s8_le (f := fun l => dm_lv (k l c)) (c := x) (by omega)
      have b := dm_stlv (x := k x c) (hk17 x hx) (by omega)
      omega
    refine dm_pu_none K hX hL hc4 hp hN hgn e1 e2 e3 e4 (fun _ _ => Or.inr (Or.inr ⟨by rw [hl]; exact hk, hfr, Or.inl hlv⟩)) ?_
    rw [dm_Psi, dm_psi, if_pos ⟨ho, hf⟩, hl, hk, if_neg (by omega), if_neg (by omega)]; exact hb9
  · have hsb : dm_s8 (fun l => dm_sb (k l c)) = 0 := by
      apply Classical.byContradiction
      intro z
      obtain ⟨x, hx8, hx⟩ := dm_s8_pos (f := fun l => dm_sb (k l c)) (by omega)
      by_cases hk0 : k x c = 0
      · rw [hk0] at hx; exact absurd hx (by decide)
      · have hfx := (dm_RF_at hF hk0).1
        have hxl := (dm_RF_lt hF hk0).1
        have h2 := h (fr x c) hfx
        obtain ⟨y, hy, h3, h4, h5⟩ := hsf (fr x c) hfx
        have hyx : y = x := by
          apply Classical.byContradiction
          intro ne
          exact dm_RF_inj hF hlc hfc hk0 h3 (fun w => ne w.1) (by rw [h4])
        subst hyx
        rw [h5] at h2
        have := dm_stsb0 (x := k y c) (hk17 y hy) h2
        omega
    refine dm_pu_none K hX hL hc4 hp hN hgn e1 e2 e3 e4 (fun _ _ => Or.inr (Or.inr ⟨by rw [hl]; exact hk, hfr, Or.inr hsb⟩)) ?_
    rw [dm_Psi, dm_psi, if_pos ⟨ho, hf⟩, hl, hk, if_neg (by omega)]
    by_cases g : dm_s8 (fun l => dm_lv (k l c)) = 0
    · rw [if_pos ⟨rfl, g⟩]; exact hb11 g
    · rw [if_neg (fun z => g z.2)]; exact hb9
  · obtain ⟨x, hx, h4, h5, h6⟩ := hsf f hff
    subst h5
    have hkx := dm_stsb (x := k x c) (hk17 x hx) (by omega) (by omega)
    have hlv0 : dm_s8 (fun l => dm_lv (k l c)) = 0 := by
      apply Classical.byContradiction
      intro z
      obtain ⟨y, hy8, hy⟩ := dm_s8_pos (f := fun l => dm_lv (k l c)) (by omega)
      by_cases hk0 : k y c = 0
      · rw [hk0] at hy; exact absurd hy (by decide)
      · have hfy := (dm_RF_at hF hk0).1
        obtain ⟨y', hy', h3', h4', h5'⟩ := hsf (fr y c) hfy
        have hyx : y' = y := by
          apply Classical.byContradiction
          intro ne
          exact dm_RF_inj hF hlc hfc hk0 h3' (fun w => ne w.1) (by rw [h4'])
        subst hyx
        have h2 := h7 _ hfy
        have := dm_stlv0 (x := k y' c) (hk17 y' hy') (by omega)
        omega
    have hxl : x ≠ l := fun z => h4 (by rw [z]; exact hk)
    have hX2 : dm_X cc lc fc k gr ac fr d nd aw n nq R dI dA V oc ok oa pf cu val M a_opKind a_opAddress a_opOperand a_opResult a_opPerformed a_acc (upd a_nextVictim c (nI nv)) a_frameLine a_frameState a_frameTarget a_frameAcks a_frameGranted a_frameWords a_memory a_current a_homeOwner a_homeSharers a_homeNextOwner a_homeNextSharers a_homeBusy a_homeAwaits a_queueHead a_queueLength a_queueType a_queueCore a_queueInfo a_queueWords a_msgType a_msgTo a_msgLine a_msgCore a_msgInfo a_msgAcks a_msgWords := by
      obtain ⟨hZ, hF, hH, hM, hQ, hP, hO, hV, hC, hN⟩ := hX
      refine ⟨hZ, hF, hH, hM, hQ, hP, hO, hV, hC, fun e he => ?_⟩
      by_cases g : e = c
      · subst g; exact ⟨nv, hnv, pk_us⟩
      · rw [pk_un g]; exact hN e he
    have hx8 : x < 8 := by omega
    have hg6 := dm_t_give (hL x hx8).1 hc4 (by omega) (by omega)
    have hlvn : dm_lv (k x c + 6) = 1 := by rw [dm_lv, if_pos (by omega)]
    have ee := dm_s8_g (fun g : Nat → Nat => dm_lv (g c)) (f := k) (v := dm_fu (k x) c (k x c + 6)) hx8
    simp only [dm_fs] at ee
    have ee' : dm_s8 (fun y => dm_lv (dm_f2 k x c (k x c + 6) y c)) + dm_lv (k x c) = dm_s8 (fun y => dm_lv (k y c)) + dm_lv (k x c + 6) := ee
    have hlx : dm_lv (k x c) = 0 := dm_stlv0 (hk17 x hx) (by omega)
    refine dm_o_give hX2 hL hc4 (by omega) (by omega) (by omega) (fun w1 w2 w3 w4 w5 w6 w7 w8 hX' hL' => K _ (dm_IB_mk hX' hL' (fun e he => ?_) ?_ (fun e he => ?_) e1 e2 e3 e4))
    · by_cases g : e = c
      · subst g
        intro _ _
        rw [hl, dm_f2n (Ne.symm hxl)]
        exact Or.inr (Or.inr ⟨hk, hfr, Or.inl (by omega)⟩)
      · exact dm_PU_ne g (fun _ _ => rfl) (hp e he g)
    · have q1 := dm_Phi_n (n := n) (nq := nq) (gr := gr) (N' := dm_i (n x) 2 c) (w := 2) hx8 hg6.2
      have q2 := dm_s4_rep (F := dm_Psi oc ok oa pf k) (G := dm_Psi oc ok oa pf (dm_f2 k x c (k x c + 6))) (b := b) hc4 (fun e _ he => dm_Psi_ne he)
      have q3 : dm_Psi oc ok oa pf (dm_f2 k x c (k x c + 6)) c = 9 := by
        rw [dm_Psi, dm_psi, if_pos ⟨ho, hf⟩, hl, dm_f2n (Ne.symm hxl), hk, if_neg (by omega), if_neg (by omega)]
      have := hb11 hlv0
      omega
    · rw [dm_f2v]
      split
      · exact Or.inr hlvn
      · exact hgn e he
end
end
section
section
variable {cc lc fc M : Nat} {k gr fr d nd : Nat → Nat → Nat} {ac : Nat → Nat → Int} {aw R dI dA cu oc ok oa pf : Nat → Nat} {n nq : Nat → Nat → Nat → Nat} {V : Nat → Nat → Int32} {val : Nat → Int32} {f_msgGetS f_msgGetM f_msgPut f_msgDone f_msgCopyBack f_msgFwdS f_msgFwdM f_msgInv f_msgAck f_msgData f_msgGrant f_msgPutAck f_stFree f_stS f_stE f_stM f_stIS f_stIM f_stSM f_stSI f_stEI f_stMI f_stII f_coreCount f_lineCount f_frameCount f_msgCount f_inType f_inTo f_inLine f_inCore f_inInfo f_inAcks : Int32} {a_opKind a_opAddress a_opOperand a_opResult a_opPerformed a_acc a_closedCount a_nextVictim a_frameLine a_frameState a_frameTarget a_frameAcks a_frameGranted a_frameWords a_memory a_current a_homeOwner a_homeSharers a_homeNextOwner a_homeNextSharers a_homeBusy a_homeAwaits a_queueHead a_queueLength a_queueType a_queueCore a_queueInfo a_queueWords a_msgType a_msgTo a_msgLine a_msgCore a_msgInfo a_msgAcks a_msgWords a_inWords : Nat → Int32} {l c : Nat}
theorem dm_find {post : Int32 → Prop} (hX : dm_X cc lc fc k gr ac fr d nd aw n nq R dI dA V oc ok oa pf cu val M a_opKind a_opAddress a_opOperand a_opResult a_opPerformed a_acc a_nextVictim a_frameLine a_frameState a_frameTarget a_frameAcks a_frameGranted a_frameWords a_memory a_current a_homeOwner a_homeSharers a_homeNextOwner a_homeNextSharers a_homeBusy a_homeAwaits a_queueHead a_queueLength a_queueType a_queueCore a_queueInfo a_queueWords a_msgType a_msgTo a_msgLine a_msgCore a_msgInfo a_msgAcks a_msgWords) (hc : c < cc) (hl : l < lc) (h1 : k l c ≠ 0 → post (nI (4 * c + fr l c))) (h0 : k l c = 0 → post (-1)) : wpX_findFrame post (f_msgGetS, f_msgGetM, f_msgPut, f_msgDone, f_msgCopyBack, f_msgFwdS, f_msgFwdM, f_msgInv, f_msgAck, f_msgData, f_msgGrant, f_msgPutAck, f_stFree, f_stS, f_stE, f_stM, f_stIS, f_stIM, f_stSM, f_stSI, f_stEI, f_stMI, f_stII, nI cc, nI lc, nI fc, nI M, f_inType, f_inTo, f_inLine, f_inCore, f_inInfo, f_inAcks, a_opKind, a_opAddress, a_opOperand, a_opResult, a_opPerformed, a_acc, a_closedCount, a_nextVictim, a_frameLine, a_frameState, a_frameTarget, a_frameAcks, a_frameGranted, a_frameWords, a_memory, a_current, a_homeOwner, a_homeSharers, a_homeNextOwner, a_homeNextSharers, a_homeBusy, a_homeAwaits, a_queueHead, a_queueLength, a_queueType, a_queueCore, a_queueInfo, a_queueWords, a_msgType, a_msgTo, a_msgLine, a_msgCore, a_msgInfo, a_msgAcks, a_msgWords, a_inWords) (nI c) (nI l) := by
  have hZ := hX.1
  refine dm_w_find (by omega) hZ.2.2.2.2.2 (fun f hf e => ?_) (fun h => h0 (dm_RF_none hX.2.1 h))
  obtain ⟨g1, g2⟩ := dm_RF_found hX.2.1 hZ.2.2.2.1 hl hc hf e
  rw [← g2]; exact h1 g1
theorem dm_stE (hX : dm_X cc lc fc k gr ac fr d nd aw n nq R dI dA V oc ok oa pf cu val M a_opKind a_opAddress a_opOperand a_opResult a_opPerformed a_acc a_nextVictim a_frameLine a_frameState a_frameTarget a_frameAcks a_frameGranted a_frameWords a_memory a_current a_homeOwner a_homeSharers a_homeNextOwner a_homeNextSharers a_homeBusy a_homeAwaits a_queueHead a_queueLength a_queueType a_queueCore a_queueInfo a_queueWords a_msgType a_msgTo a_msgLine a_msgCore a_msgInfo a_msgAcks a_msgWords) (hL : dm_LL 8 k gr ac d nd aw n nq R dI dA cu) (hk : k l c ≠ 0) : 4 * c + fr l c < 16 ∧ dm_st (k l c) ≤ 10 ∧ k l c ≤ 17 ∧ a_frameState (4 * c + fr l c) = nI (dm_st (k l c)) := by
  obtain ⟨g1, g2, g3, g4, g5, g6, g7⟩ := dm_RF_at hX.2.1 hk
  have h := dm_RF_lt hX.2.1 hk
  have hZ := hX.1
  have h17 : k l c ≤ 17 := ((hL l (by omega)).1.1 c (by omega)).1
  exact ⟨by omega, dm_st10 h17, h17, g3⟩
end
theorem dm_div4 {a : Nat} (h : a < 32) : nI a / 4 = nI (a / 4) := by
  rw [show (4 : Int32) = nI 4 from rfl, pk_div (by omega) (by omega) (by omega)]
theorem dm_pursue {cc lc fc : Nat} {oc ok oa cu : Nat → Nat} {val y_acc y_opn y_fin y_cur : Nat → Int32} {gl N : Nat} {c : Nat} {post : SX → Prop} {u : SX} (I : dm_IA cc lc fc oc ok oa cu val y_acc y_opn y_fin y_cur gl N c u) (hc : c < cc) (hg : ∀ e, e < 4 → oc e = 1 → oa e / 4 ≠ gl) (K : ∀ u', dm_IB cc lc fc oc ok oa cu val y_acc y_opn y_fin y_cur gl N u' → post u') : wpX_pursue post u (nI c) := by
  refine dm_IA_el (P := fun u => wpX_pursue post u (nI c)) ?_ I
  intro k gr ac fr d nd aw n nq R dI dA V pf M f_msgGetS f_msgGetM f_msgPut f_msgDone f_msgCopyBack f_msgFwdS f_msgFwdM f_msgInv f_msgAck f_msgData f_msgGrant f_msgPutAck f_stFree f_stS f_stE f_stM f_stIS f_stIM f_stSM f_stSI f_stEI f_stMI f_stII f_coreCount f_lineCount f_frameCount f_msgCount f_inType f_inTo f_inLine f_inCore f_inInfo f_inAcks a_opKind a_opAddress a_opOperand a_opResult a_opPerformed a_acc a_closedCount a_nextVictim a_frameLine a_frameState a_frameTarget a_frameAcks a_frameGranted a_frameWords a_memory a_current a_homeOwner a_homeSharers a_homeNextOwner a_homeNextSharers a_homeBusy a_homeAwaits a_queueHead a_queueLength a_queueType a_queueCore a_queueInfo a_queueWords a_msgType a_msgTo a_msgLine a_msgCore a_msgInfo a_msgAcks a_msgWords a_inWords hX hL hp b hb hN hgn e1 e2 e3 e4
  have hZ := hX.1
  have hc4 : c < 4 := by omega
  have hi : vp_in (nI c) 4 := vp_in_nI hc4 (by omega)
  have hcc : (nI c).toNatClampNeg = c := nI_clamp (by omega)
  obtain ⟨o1, o2, o3, o4, o5⟩ := hX.2.2.2.2.2.2.1 c hc4
  have hnone : dm_PU fc oc ok oa pf k a_frameLine c → dm_Psi oc ok oa pf k c ≤ b → post (f_msgGetS, f_msgGetM, f_msgPut, f_msgDone, f_msgCopyBack, f_msgFwdS, f_msgFwdM, f_msgInv, f_msgAck, f_msgData, f_msgGrant, f_msgPutAck, f_stFree, f_stS, f_stE, f_stM, f_stIS, f_stIM, f_stSM, f_stSI, f_stEI, f_stMI, f_stII, nI cc, nI lc, nI fc, nI M, f_inType, f_inTo, f_inLine, f_inCore, f_inInfo, f_inAcks, a_opKind, a_opAddress, a_opOperand, a_opResult, a_opPerformed, a_acc, a_closedCount, a_nextVictim, a_frameLine, a_frameState, a_frameTarget, a_frameAcks, a_frameGranted, a_frameWords, a_memory, a_current, a_homeOwner, a_homeSharers, a_homeNextOwner, a_homeNextSharers, a_homeBusy, a_homeAwaits, a_queueHead, a_queueLength, a_queueType, a_queueCore, a_queueInfo, a_queueWords, a_msgType, a_msgTo, a_msgLine, a_msgCore, a_msgInfo, a_msgAcks, a_msgWords, a_inWords) := fun h1 h2 => dm_pu_none K hX hL hc4 hp hN hgn e1 e2 e3 e4 h1 h2
  have hni : ¬ (oc c = 1 ∧ pf c = 0) → post (f_msgGetS, f_msgGetM, f_msgPut, f_msgDone, f_msgCopyBack, f_msgFwdS, f_msgFwdM, f_msgInv, f_msgAck, f_msgData, f_msgGrant, f_msgPutAck, f_stFree, f_stS, f_stE, f_stM, f_stIS, f_stIM, f_stSM, f_stSI, f_stEI, f_stMI, f_stII, nI cc, nI lc, nI fc, nI M, f_inType, f_inTo, f_inLine, f_inCore, f_inInfo, f_inAcks, a_opKind, a_opAddress, a_opOperand, a_opResult, a_opPerformed, a_acc, a_closedCount, a_nextVictim, a_frameLine, a_frameState, a_frameTarget, a_frameAcks, a_frameGranted, a_frameWords, a_memory, a_current, a_homeOwner, a_homeSharers, a_homeNextOwner, a_homeNextSharers, a_homeBusy, a_homeAwaits, a_queueHead, a_queueLength, a_queueType, a_queueCore, a_queueInfo, a_queueWords, a_msgType, a_msgTo, a_msgLine, a_msgCore, a_msgInfo, a_msgAcks, a_msgWords, a_inWords) := fun h => hnone (fun h1 h2 => absurd ⟨h1, h2⟩ h) (by rw [dm_Psi, dm_psi, if_neg h]; omega)
  by_cases ho : oc c = 1
  · obtain ⟨p1, p2, p3, p4, p5⟩ := o4 ho
    by_cases hf : pf c = 0
    · have hl : oa c / 4 < lc := by omega
      have hgl : gl ≠ oa c / 4 := fun z => hg c hc4 ho z.symm
      have core : ∀ z t, (z = (0 : Int32) ∧ t = 0 ∧ ok c = 0) ∨ (z = (1 : Int32) ∧ t = 1 ∧ ok c ≠ 0) → wX_pursue_42 post (nI c) (nI (oa c / 4)) z f_msgGetS f_msgGetM f_msgPut f_msgDone f_msgCopyBack f_msgFwdS f_msgFwdM f_msgInv f_msgAck f_msgData f_msgGrant f_msgPutAck f_stFree f_stS f_stE f_stM f_stIS f_stIM f_stSM f_stSI f_stEI f_stMI f_stII (nI cc) (nI lc) (nI fc) (nI M) f_inType f_inTo f_inLine f_inCore f_inInfo f_inAcks a_opKind a_opAddress a_opOperand a_opResult a_opPerformed a_acc a_closedCount a_nextVictim a_frameLine a_frameState a_frameTarget a_frameAcks a_frameGranted a_frameWords a_memory a_current a_homeOwner a_homeSharers a_homeNextOwner a_homeNextSharers a_homeBusy a_homeAwaits a_queueHead a_queueLength a_queueType a_queueCore a_queueInfo a_queueWords a_msgType a_msgTo a_msgLine a_msgCore a_msgInfo a_msgAcks a_msgWords a_inWords := by
        intro z t hz
        obtain ⟨b1, b2, b3, b4, b5⟩ := hb ho hf
        unfold wX_pursue_42
        refine dm_find hX hc hl (fun hk => br_t (nI_pos' (by have := dm_stE hX hL hk; omega)) ?_) (fun hk => br_f (by decide) (dm_w_free hc4 hZ.2.2.2.2.2 (fun f hff e0 => br_f (nI_pos (by omega)) ?_) (fun hfr => br_t (by decide) ?_)))
        · obtain ⟨q1, q2, q17, q3⟩ := dm_stE hX hL hk
          have hperf : (ok c = 0 ∧ dm_ro (k (oa c / 4) c) ≠ 0) ∨ (ok c ≠ 0 ∧ (k (oa c / 4) c = 2 ∨ k (oa c / 4) c = 3)) → wpX_perform post (f_msgGetS, f_msgGetM, f_msgPut, f_msgDone, f_msgCopyBack, f_msgFwdS, f_msgFwdM, f_msgInv, f_msgAck, f_msgData, f_msgGrant, f_msgPutAck, f_stFree, f_stS, f_stE, f_stM, f_stIS, f_stIM, f_stSM, f_stSI, f_stEI, f_stMI, f_stII, nI cc, nI lc, nI fc, nI M, f_inType, f_inTo, f_inLine, f_inCore, f_inInfo, f_inAcks, a_opKind, a_opAddress, a_opOperand, a_opResult, a_opPerformed, a_acc, a_closedCount, a_nextVictim, a_frameLine, a_frameState, a_frameTarget, a_frameAcks, a_frameGranted, a_frameWords, a_memory, a_current, a_homeOwner, a_homeSharers, a_homeNextOwner, a_homeNextSharers, a_homeBusy, a_homeAwaits, a_queueHead, a_queueLength, a_queueType, a_queueCore, a_queueInfo, a_queueWords, a_msgType, a_msgTo, a_msgLine, a_msgCore, a_msgInfo, a_msgAcks, a_msgWords, a_inWords) (nI c) (nI (4 * c + fr (oa c / 4) c)) := fun h => dm_pu_perf K hX hL hc4 hp hN hgn e1 e2 e3 e4 hgl ho hf rfl h
          rcases hz with ⟨rfl, _, h0⟩ | ⟨rfl, _, h0⟩
          · refine dm_w_all0 q1 q2 q3 (fun h => br_f (by decide) (hperf (Or.inl ⟨h0, ?_⟩))) (fun h => br_t rfl (dm_w_stab q1 q2 q3 (fun h1 h2 => absurd (show _ ∨ _ from by omega) h) (fun h2 => br_t rfl (hnone (fun _ _ => ?_) ?_))))
            · have : k (oa c / 4) c = 1 ∨ k (oa c / 4) c = 2 ∨ k (oa c / 4) c = 3 ∨ k (oa c / 4) c = 6 ∨ k (oa c / 4) c = 13 := by
                by_cases g : k (oa c / 4) c ≤ 10
                · rw [dm_st, if_pos g] at h; omega
                · rw [dm_st, if_neg g] at h; omega
              rcases this with e | e | e | e | e <;> rw [e] <;> decide
            · left
              by_cases g : k (oa c / 4) c ≤ 10
              · rw [dm_st, if_pos g] at h; omega
              · omega
            · rw [dm_Psi, dm_psi, if_pos ⟨ho, hf⟩]
              split
              · omega
              · rw [if_neg (fun z => hk z.1)]
                rename_i g
                refine b5 ?_
                rw [dm_lv]
                by_cases g2 : k (oa c / 4) c ≤ 10
                · rw [dm_st, if_pos g2] at h; rw [if_pos (by omega)]
                · rw [if_pos (by omega)]
          · refine dm_w_all1 q1 q2 (by decide) q3 (fun h => br_f (by decide) (hperf (Or.inr ⟨h0, ?_⟩))) (fun h => br_t rfl (dm_w_stab q1 q2 q3 (fun h1 h2 => br_f (by decide) ?_) (fun h2 => br_t rfl (hnone (fun _ _ => ?_) ?_))))
            · by_cases g : k (oa c / 4) c ≤ 10
              · rw [dm_st, if_pos g] at h; omega
              · rw [dm_st, if_neg g] at h; omega
            · have e : k (oa c / 4) c = 1 := by
                by_cases g : k (oa c / 4) c ≤ 10
                · rw [dm_st, if_pos g] at h h1 h2; omega
                · rw [dm_st, if_neg g] at h h1 h2; omega
              exact dm_pu_upg K hX hL hc4 hp hN hgn e1 e2 e3 e4 hgl ho hf rfl h0 e (b3 e h0)
            · by_cases g : k (oa c / 4) c ≤ 10
              · rw [dm_st, if_pos g] at h h2; omega
              · omega
            · rw [dm_Psi, dm_psi, if_pos ⟨ho, hf⟩]
              split
              · omega
              · rw [if_neg (fun z => hk z.1)]
                rename_i g
                by_cases g3 : k (oa c / 4) c = 4 ∨ k (oa c / 4) c = 11
                · exact b4 g3 h0
                · refine b5 ?_
                  rw [dm_lv]
                  by_cases g2 : k (oa c / 4) c ≤ 10
                  · rw [dm_st, if_pos g2] at h h2; rw [if_pos (by omega)]
                  · rw [if_pos (by omega)]
        · exact dm_pu_fetch K hX hL hc hp hN hgn e1 e2 e3 e4 hgl ho hf rfl hl (t := t) (hz.imp (fun q => ⟨q.1, q.2.1⟩) (fun q => ⟨by rw [q.1]; decide, q.2.1⟩)) (by omega) hk hff e0 (b1 hk)
        · exact dm_pu_room K hX hL hc hp hN hgn e1 e2 e3 e4 ho hf rfl hk hfr (b1 hk) (b2 hk hfr)
      have e5 : ¬ a_opKind (nI c).toNatClampNeg < 0 := by rw [hcc, p4]; exact nI_pos (by omega)
      have e6 : a_opPerformed (nI c).toNatClampNeg = 0 := by rw [hcc, o5, hf]; rfl
      have e7 : a_opAddress (nI c).toNatClampNeg / 4 = nI (oa c / 4) := by rw [hcc, p5]; exact dm_div4 (by omega)
      refine ⟨hi, br_f e5 ⟨hi, br_t e6 ⟨hi, by decide, nm_r e7 ⟨hi, ?_⟩⟩⟩⟩
      rw [hcc, p4]
      exact pk_eq (ok c) 0 (fun h => core 0 0 (Or.inl ⟨rfl, rfl, h⟩)) (fun h => core 1 1 (Or.inr ⟨rfl, rfl, h⟩))
    · have e5 : ¬ a_opKind (nI c).toNatClampNeg < 0 := by rw [hcc, p4]; exact nI_pos (by omega)
      have e6 : ¬ a_opPerformed (nI c).toNatClampNeg = 0 := by
        have : pf c = 1 := by omega
        rw [hcc, o5, this]; decide
      exact ⟨hi, br_f e5 ⟨hi, br_f e6 (hni (fun z => hf z.2))⟩⟩
  · have e5 : a_opKind (nI c).toNatClampNeg < 0 := by rw [hcc, (o3 (by omega)).1]; decide
    exact ⟨hi, br_t e5 (hni (fun z => ho z.1))⟩
section
variable {cc lc fc : Nat} {oc ok oa cu : Nat → Nat} {val y_acc y_opn y_fin y_cur : Nat → Int32} {gl N : Nat} {c : Nat} {post : SX → Prop} {f_msgGetS f_msgGetM f_msgPut f_msgDone f_msgCopyBack f_msgFwdS f_msgFwdM f_msgInv f_msgAck f_msgData f_msgGrant f_msgPutAck f_stFree f_stS f_stE f_stM f_stIS f_stIM f_stSM f_stSI f_stEI f_stMI f_stII f_coreCount f_lineCount f_frameCount f_msgCount f_inType f_inTo f_inLine f_inCore f_inInfo f_inAcks : Int32} {a_opKind a_opAddress a_opOperand a_opResult a_opPerformed a_acc a_closedCount a_nextVictim a_frameLine a_frameState a_frameTarget a_frameAcks a_frameGranted a_frameWords a_memory a_current a_homeOwner a_homeSharers a_homeNextOwner a_homeNextSharers a_homeBusy a_homeAwaits a_queueHead a_queueLength a_queueType a_queueCore a_queueInfo a_queueWords a_msgType a_msgTo a_msgLine a_msgCore a_msgInfo a_msgAcks a_msgWords a_inWords : Nat → Int32}
theorem dm_c141 (I : dm_IA cc lc fc oc ok oa cu val y_acc y_opn y_fin y_cur gl N c (f_msgGetS, f_msgGetM, f_msgPut, f_msgDone, f_msgCopyBack, f_msgFwdS, f_msgFwdM, f_msgInv, f_msgAck, f_msgData, f_msgGrant, f_msgPutAck, f_stFree, f_stS, f_stE, f_stM, f_stIS, f_stIM, f_stSM, f_stSI, f_stEI, f_stMI, f_stII, f_coreCount, f_lineCount, f_frameCount, f_msgCount, f_inType, f_inTo, f_inLine, f_inCore, f_inInfo, f_inAcks, a_opKind, a_opAddress, a_opOperand, a_opResult, a_opPerformed, a_acc, a_closedCount, a_nextVictim, a_frameLine, a_frameState, a_frameTarget, a_frameAcks, a_frameGranted, a_frameWords, a_memory, a_current, a_homeOwner, a_homeSharers, a_homeNextOwner, a_homeNextSharers, a_homeBusy, a_homeAwaits, a_queueHead, a_queueLength, a_queueType, a_queueCore, a_queueInfo, a_queueWords, a_msgType, a_msgTo, a_msgLine, a_msgCore, a_msgInfo, a_msgAcks, a_msgWords, a_inWords)) (hc : c < cc) (hg : ∀ e, e < 4 → oc e = 1 → oa e / 4 ≠ gl) (K : ∀ u', dm_IB cc lc fc oc ok oa cu val y_acc y_opn y_fin y_cur gl N u' → post u') : wX_coreReceives_141 post (nI c) f_msgGetS f_msgGetM f_msgPut f_msgDone f_msgCopyBack f_msgFwdS f_msgFwdM f_msgInv f_msgAck f_msgData f_msgGrant f_msgPutAck f_stFree f_stS f_stE f_stM f_stIS f_stIM f_stSM f_stSI f_stEI f_stMI f_stII f_coreCount f_lineCount f_frameCount f_msgCount f_inType f_inTo f_inLine f_inCore f_inInfo f_inAcks a_opKind a_opAddress a_opOperand a_opResult a_opPerformed a_acc a_closedCount a_nextVictim a_frameLine a_frameState a_frameTarget a_frameAcks a_frameGranted a_frameWords a_memory a_current a_homeOwner a_homeSharers a_homeNextOwner a_homeNextSharers a_homeBusy a_homeAwaits a_queueHead a_queueLength a_queueType a_queueCore a_queueInfo a_queueWords a_msgType a_msgTo a_msgLine a_msgCore a_msgInfo a_msgAcks a_msgWords a_inWords := by
  unfold wX_coreReceives_141
  exact dm_pursue I hc hg (fun u' h => K u' h)
end
end
section
theorem dm_tr_gn {a b : Nat} (h : dm_tr a b) (h0 : a ≠ 0) (hg : dm_gn a) : dm_gn b := by
  by_cases e : b = 0
  · exact Or.inl e
  · exact Or.inr (dm_tr_lv h e (hg.resolve_left h0))
section
variable {cc lc fc : Nat} {oc ok oa cu : Nat → Nat} {val y_acc y_opn y_fin y_cur : Nat → Int32} {gl N : Nat} {k gr fr d nd : Nat → Nat → Nat} {ac : Nat → Nat → Int} {aw R dI dA pf : Nat → Nat} {n nq : Nat → Nat → Nat → Nat} {V : Nat → Nat → Int32} {M M0 c l : Nat} {o1 o2 o3 o4 o5 o6 o7 : Nat → Int32} {f_msgGetS f_msgGetM f_msgPut f_msgDone f_msgCopyBack f_msgFwdS f_msgFwdM f_msgInv f_msgAck f_msgData f_msgGrant f_msgPutAck f_stFree f_stS f_stE f_stM f_stIS f_stIM f_stSM f_stSI f_stEI f_stMI f_stII f_coreCount f_lineCount f_frameCount f_msgCount f_inType f_inTo f_inLine f_inCore f_inInfo f_inAcks : Int32} {a_opKind a_opAddress a_opOperand a_opResult a_opPerformed a_acc a_closedCount a_nextVictim a_frameLine a_frameState a_frameTarget a_frameAcks a_frameGranted a_frameWords a_memory a_current a_homeOwner a_homeSharers a_homeNextOwner a_homeNextSharers a_homeBusy a_homeAwaits a_queueHead a_queueLength a_queueType a_queueCore a_queueInfo a_queueWords a_msgType a_msgTo a_msgLine a_msgCore a_msgInfo a_msgAcks a_msgWords a_inWords : Nat → Int32} {post : SX → Prop}
theorem dm_findF {post : Int32 → Prop} {FS FT FA FG FW : Nat → Int32} (hF : dm_RF cc lc fc k gr ac fr V a_frameLine FS FT FA FG FW) (hcc : cc ≤ 4) (hlc : lc ≤ 8) (hfc : fc ≤ 4) (hc : c < cc) (hl : l < lc) (h1 : k l c ≠ 0 → post (nI (4 * c + fr l c))) (h0 : k l c = 0 → post (-1)) : wpX_findFrame post (f_msgGetS, f_msgGetM, f_msgPut, f_msgDone, f_msgCopyBack, f_msgFwdS, f_msgFwdM, f_msgInv, f_msgAck, f_msgData, f_msgGrant, f_msgPutAck, f_stFree, f_stS, f_stE, f_stM, f_stIS, f_stIM, f_stSM, f_stSI, f_stEI, f_stMI, f_stII, nI cc, nI lc, nI fc, nI M, f_inType, f_inTo, f_inLine, f_inCore, f_inInfo, f_inAcks, a_opKind, a_opAddress, a_opOperand, a_opResult, a_opPerformed, a_acc, a_closedCount, a_nextVictim, a_frameLine, a_frameState, a_frameTarget, a_frameAcks, a_frameGranted, a_frameWords, a_memory, a_current, a_homeOwner, a_homeSharers, a_homeNextOwner, a_homeNextSharers, a_homeBusy, a_homeAwaits, a_queueHead, a_queueLength, a_queueType, a_queueCore, a_queueInfo, a_queueWords, a_msgType, a_msgTo, a_msgLine, a_msgCore, a_msgInfo, a_msgAcks, a_msgWords, a_inWords) (nI c) (nI l) := by
  refine dm_w_find (by omega) hfc (fun f hf e => ?_) (fun h => h0 (dm_RF_none hF h))
  obtain ⟨g1, g2⟩ := dm_RF_found hF hlc hl hc hf e
  rw [← g2]; exact h1 g1
/-- the state behind a message to a core, ahead of pursue -/
theorem dm_IA_of {v : Nat} {gr' : Nat → Nat → Nat} {ac' : Nat → Nat → Int} {N' : Nat → Nat → Nat} {dI' dA' : Nat → Nat} {FL' : Nat → Int32} (hX : dm_X cc lc fc (dm_f2 k l c v) gr' ac' fr d nd aw (dm_fu n l N') nq R dI' dA' V oc ok oa pf cu val M a_opKind a_opAddress a_opOperand a_opResult a_opPerformed a_acc a_nextVictim FL' a_frameState a_frameTarget a_frameAcks a_frameGranted a_frameWords a_memory a_current a_homeOwner a_homeSharers a_homeNextOwner a_homeNextSharers a_homeBusy a_homeAwaits a_queueHead a_queueLength a_queueType a_queueCore a_queueInfo a_queueWords a_msgType a_msgTo a_msgLine a_msgCore a_msgInfo a_msgAcks a_msgWords) (hL : dm_LL 8 (dm_f2 k l c v) gr' ac' d nd aw (dm_fu n l N') nq R dI' dA' cu)
    (hl : l < lc) (hc : c < cc) (hp : ∀ e, e < 4 → dm_PU fc oc ok oa pf k a_frameLine e) (hN : dm_Phi n nq gr + dm_s4 (dm_Psi oc ok oa pf k) ≤ N + 1) (hgn : ∀ e, e < 4 → dm_gn (k gl e)) (e1 : a_acc = y_acc) (e2 : a_opOperand = y_opn) (e3 : a_closedCount = y_fin) (e4 : a_current = y_cur)
    (htr : dm_tr (k l c) v) (hk0 : k l c ≠ 0) (hfr : fr l c < fc) (hFL : ∀ j, j ≠ 4 * c + fr l c → FL' j = a_frameLine j) (hv0 : v = 0 → FL' (4 * c + fr l c) = -1) (hv1 : v ≠ 0 → FL' = a_frameLine) (hphi : dm_Phi (dm_fu n l N') nq gr' + 1 ≤ dm_Phi n nq gr) : dm_IA cc lc fc oc ok oa cu val y_acc y_opn y_fin y_cur gl N c (f_msgGetS, f_msgGetM, f_msgPut, f_msgDone, f_msgCopyBack, f_msgFwdS, f_msgFwdM, f_msgInv, f_msgAck, f_msgData, f_msgGrant, f_msgPutAck, f_stFree, f_stS, f_stE, f_stM, f_stIS, f_stIM, f_stSM, f_stSI, f_stEI, f_stMI, f_stII, nI cc, nI lc, nI fc, nI M, f_inType, f_inTo, f_inLine, f_inCore, f_inInfo, f_inAcks, a_opKind, a_opAddress, a_opOperand, a_opResult, a_opPerformed, a_acc, a_closedCount, a_nextVictim, FL', a_frameState, a_frameTarget, a_frameAcks, a_frameGranted, a_frameWords, a_memory, a_current, a_homeOwner, a_homeSharers, a_homeNextOwner, a_homeNextSharers, a_homeBusy, a_homeAwaits, a_queueHead, a_queueLength, a_queueType, a_queueCore, a_queueInfo, a_queueWords, a_msgType, a_msgTo, a_msgLine, a_msgCore, a_msgInfo, a_msgAcks, a_msgWords, a_inWords) := by
  have hZ := hX.1
  refine dm_IA_mk hX hL (fun e he hne => dm_PU_ne hne (fun f hf => hFL _ (by omega)) (hp e he)) (dm_PB_tr hZ.2.2.2.2.2 (by omega) htr hk0 (fun z => ⟨_, hfr, hv0 z⟩) hv1 (hp c (by omega))) ?_ (fun e he => ?_) e1 e2 e3 e4
  · rw [dm_s4_Psi]; omega
  · rw [dm_f2v]
    split
    · rename_i h
      refine dm_tr_gn htr hk0 ?_
      have := hgn e he
      rw [h.1, h.2] at this; exact this
    · exact hgn e he
theorem dm_Phi_n1 {N' : Nat → Nat → Nat} (hl : l < 8) (h : dm_phi N' (nq l) (gr l) + 1 ≤ dm_phi (n l) (nq l) (gr l)) : dm_Phi (dm_fu n l N') nq gr + 1 ≤ dm_Phi n nq gr := by
  have q := dm_Phi_set (n := n) (nq := nq) (gr := gr) (N := N') (Q := nq l) (G := gr l) hl
  rw [dm_fself, dm_fself] at q
  omega
theorem dm_Phi_g1 {N' : Nat → Nat → Nat} {g : Nat} (hl : l < 8) (h : dm_phi N' (nq l) (dm_fu (gr l) c g) + 1 ≤ dm_phi (n l) (nq l) (gr l)) : dm_Phi (dm_fu n l N') nq (dm_f2 gr l c g) + 1 ≤ dm_Phi n nq gr := by
  have q := dm_Phi_set (n := n) (nq := nq) (gr := gr) (N := N') (Q := nq l) (G := dm_fu (gr l) c g) hl
  rw [dm_fself] at q
  show dm_Phi (dm_fu n l N') nq (dm_fu gr l (dm_fu (gr l) c g)) + 1 ≤ _
  omega
/-- PutAck -/
theorem dm_c_pack (K : ∀ u', dm_IB cc lc fc oc ok oa cu val y_acc y_opn y_fin y_cur gl N u' → post u') (hX : dm_X cc lc fc k gr ac fr d nd aw n nq R dI dA V oc ok oa pf cu val M0 a_opKind a_opAddress a_opOperand a_opResult a_opPerformed a_acc a_nextVictim a_frameLine a_frameState a_frameTarget a_frameAcks a_frameGranted a_frameWords a_memory a_current a_homeOwner a_homeSharers a_homeNextOwner a_homeNextSharers a_homeBusy a_homeAwaits a_queueHead a_queueLength a_queueType a_queueCore a_queueInfo a_queueWords o1 o2 o3 o4 o5 o6 o7) (hL : dm_LL 8 k gr ac d nd aw n nq R dI dA cu) (hl : l < lc) (hc : c < cc) (hM : M ≤ 80) (hp : ∀ e, e < 4 → dm_PU fc oc ok oa pf k a_frameLine e) (hN : dm_Phi n nq gr + dm_s4 (dm_Psi oc ok oa pf k) ≤ N + 1) (hgn : ∀ e, e < 4 → dm_gn (k gl e)) (e1 : a_acc = y_acc) (e2 : a_opOperand = y_opn) (e3 : a_closedCount = y_fin) (e4 : a_current = y_cur) (hg : ∀ e, e < 4 → oc e = 1 → oa e / 4 ≠ gl) (hP : dm_RP lc k V R dI dA (dm_fu n l (dm_d (n l) 11 c)) M a_msgType a_msgTo a_msgLine a_msgCore a_msgInfo a_msgAcks a_msgWords) (hn : 1 ≤ n l 11 c) (hi : f_inLine = nI l) (ht : f_inType = 11) : wpX_coreReceives post (f_msgGetS, f_msgGetM, f_msgPut, f_msgDone, f_msgCopyBack, f_msgFwdS, f_msgFwdM, f_msgInv, f_msgAck, f_msgData, f_msgGrant, f_msgPutAck, f_stFree, f_stS, f_stE, f_stM, f_stIS, f_stIM, f_stSM, f_stSI, f_stEI, f_stMI, f_stII, nI cc, nI lc, nI fc, nI M, f_inType, f_inTo, f_inLine, f_inCore, f_inInfo, f_inAcks, a_opKind, a_opAddress, a_opOperand, a_opResult, a_opPerformed, a_acc, a_closedCount, a_nextVictim, a_frameLine, a_frameState, a_frameTarget, a_frameAcks, a_frameGranted, a_frameWords, a_memory, a_current, a_homeOwner, a_homeSharers, a_homeNextOwner, a_homeNextSharers, a_homeBusy, a_homeAwaits, a_queueHead, a_queueLength, a_queueType, a_queueCore, a_queueInfo, a_queueWords, a_msgType, a_msgTo, a_msgLine, a_msgCore, a_msgInfo, a_msgAcks, a_msgWords, a_inWords) (nI c) := by
  subst hi ht
  obtain ⟨hZ, hF, hH, hM', hQ, _, hO, hV, hC, hNv⟩ := hX
  have hc4 : c < 4 := by omega
  have hl8 : l < 8 := by omega
  have hl0 := hL l hl8
  have hk := dm_w3_k (x := k l c) (by have := (hl0.1.1 c hc4).2.2.2.2.1; omega) (hl0.1.1 c hc4).1
  have hk0 : k l c ≠ 0 := by omega
  obtain ⟨g1, g2, g3, g4, g5, g6, g7⟩ := dm_RF_at hF hk0
  have hq : 4 * c + fr l c < 16 := by omega
  have hF' := dm_RF_rel (g := gr l c) (a := ac l c) (FS' := upd a_frameState (4 * c + fr l c) 0) (FT' := a_frameTarget) (FA' := upd a_frameAcks (4 * c + fr l c) 0) (FG' := upd a_frameGranted (4 * c + fr l c) 0) (FW' := a_frameWords) hF hZ.2.2.2.1 hZ.2.2.2.2.2 hk0 (fun j hj => ⟨pk_un hj, rfl, pk_un hj, pk_un hj, fun _ _ => rfl⟩)
  rw [dm_f2self, dm_f2self] at hF'
  have hdt : dm_s4 (fun x => dm_dt (k l x)) ≤ dm_s4 (fun x => dm_dt (dm_fu (k l) c 0 x)) := by
    have e := dm_s4_g dm_dt (f := k l) (c := c) (v := 0) hc4
    have : dm_dt (k l c) = 0 := by rcases hk with h | h | h | h <;> rw [h] <;> rfl
    omega
  refine dm_findF hF (by omega) (by omega) (by omega) hc hl (fun _ => br_f (nI_pos (by omega)) (br_f (by decide) (br_f (by decide) (br_f (by decide) (br_f (by decide) (br_f (by decide) (br_f (by decide) (br_t rfl (dm_w_rel hq (dm_c141 (dm_IA_of ⟨hZ, hF', hH, dm_RM_kn hM' (fun _ g => dm_mc_mono (by simp (disch := decide) only [dm_dn]; omega) (by simp (disch := decide) only [dm_dn]; exact id) hdt g), dm_RQ_k hQ (Or.inl ⟨by omega, by omega⟩), dm_RP_k hP (Or.inl ⟨by omega, by omega⟩), hO, hV, hC, hNv⟩ (dm_LL_kn hL ⟨dm_t_pack hl0.1 hc4 hn, hl0.2⟩) hl hc hp hN hgn e1 e2 e3 e4 ?_ hk0 g1 (fun j hj => pk_un hj) (fun _ => pk_us) (fun z => absurd rfl z) (dm_Phi_n1 hl8 (dm_p_pack hl0.1 hc4 hn))) hc hg K))))))))))  (fun z => absurd z hk0)
  right; right; right; left
  exact ⟨by rcases hk with h | h | h | h <;> rw [h] <;> rfl, Or.inr rfl⟩
/-- Inv -/
theorem dm_c_inv (K : ∀ u', dm_IB cc lc fc oc ok oa cu val y_acc y_opn y_fin y_cur gl N u' → post u') (hX : dm_X cc lc fc k gr ac fr d nd aw n nq R dI dA V oc ok oa pf cu val M0 a_opKind a_opAddress a_opOperand a_opResult a_opPerformed a_acc a_nextVictim a_frameLine a_frameState a_frameTarget a_frameAcks a_frameGranted a_frameWords a_memory a_current a_homeOwner a_homeSharers a_homeNextOwner a_homeNextSharers a_homeBusy a_homeAwaits a_queueHead a_queueLength a_queueType a_queueCore a_queueInfo a_queueWords o1 o2 o3 o4 o5 o6 o7) (hL : dm_LL 8 k gr ac d nd aw n nq R dI dA cu) (hl : l < lc) (hc : c < cc) (hM : M ≤ 80) (hp : ∀ e, e < 4 → dm_PU fc oc ok oa pf k a_frameLine e) (hN : dm_Phi n nq gr + dm_s4 (dm_Psi oc ok oa pf k) ≤ N + 1) (hgn : ∀ e, e < 4 → dm_gn (k gl e)) (e1 : a_acc = y_acc) (e2 : a_opOperand = y_opn) (e3 : a_closedCount = y_fin) (e4 : a_current = y_cur) (hg : ∀ e, e < 4 → oc e = 1 → oa e / 4 ≠ gl) (hP : dm_RP lc k V R dI dA (dm_fu n l (dm_d (n l) 7 c)) M a_msgType a_msgTo a_msgLine a_msgCore a_msgInfo a_msgAcks a_msgWords) (hn : 1 ≤ n l 7 c) (hi : f_inLine = nI l) (ht : f_inType = 7) (hco : f_inCore = nI (R l)) : wpX_coreReceives post (f_msgGetS, f_msgGetM, f_msgPut, f_msgDone, f_msgCopyBack, f_msgFwdS, f_msgFwdM, f_msgInv, f_msgAck, f_msgData, f_msgGrant, f_msgPutAck, f_stFree, f_stS, f_stE, f_stM, f_stIS, f_stIM, f_stSM, f_stSI, f_stEI, f_stMI, f_stII, nI cc, nI lc, nI fc, nI M, f_inType, f_inTo, f_inLine, f_inCore, f_inInfo, f_inAcks, a_opKind, a_opAddress, a_opOperand, a_opResult, a_opPerformed, a_acc, a_closedCount, a_nextVictim, a_frameLine, a_frameState, a_frameTarget, a_frameAcks, a_frameGranted, a_frameWords, a_memory, a_current, a_homeOwner, a_homeSharers, a_homeNextOwner, a_homeNextSharers, a_homeBusy, a_homeAwaits, a_queueHead, a_queueLength, a_queueType, a_queueCore, a_queueInfo, a_queueWords, a_msgType, a_msgTo, a_msgLine, a_msgCore, a_msgInfo, a_msgAcks, a_msgWords, a_inWords) (nI c) := by
  subst hi ht hco
  obtain ⟨hZ, hF, hH, hM', hQ, _, hO, hV, hC, hNv⟩ := hX
  have hc4 : c < 4 := by omega
  have hl8 : l < 8 := by omega
  have hl0 := hL l hl8
  have a := hl0.1.1 c hc4
  have hsh := a.2.2.2.2.2.2.2.2.2.1
  have hk := dm_sh_k (x := k l c) (by omega)
  have hk13 : k l c ≠ 13 := fun z => by
    have h1 := a.2.2.2.2.2.1 (by rw [z]; rfl)
    have := a.2.2.2.2.2.2.2.2.2.2.2 h1
    omega
  have hk0 : k l c ≠ 0 := by omega
  obtain ⟨g1, g2, g3, g4, g5, g6, g7⟩ := dm_RF_at hF hk0
  have hq : 4 * c + fr l c < 16 := by omega
  have post_cm : ∀ k' : Nat → Nat → Nat, dm_CM k' V R dI dA l 8 c (nI (R l)) (nI c) 0 0 (fun j => a_msgWords (4 * M + j)) := fun k' => ⟨fun z => absurd z (by decide), fun z => absurd z (by decide), fun z => absurd z (by decide), fun _ z => absurd z (by decide), fun _ => ⟨rfl, rfl⟩, fun z => absurd z (by decide), fun z => absurd z (by decide), fun z => absurd z (by decide)⟩
  have mcm : ∀ v, dm_dt (k l c) = 0 → dm_mc (dm_fu (k l) c v) (dm_i (dm_d (n l) 7 c) 8 c) (dI l) (cu l) → dm_mc (k l) (n l) (dI l) (cu l) := fun v hd g => by
    refine dm_mc_mono (by simp (disch := decide) only [dm_dn, dm_in]; omega) (by simp (disch := decide) only [dm_dn, dm_in]; exact id) ?_ g
    have e := dm_s4_g dm_dt (f := k l) (c := c) (v := v) hc4
    omega
  have pp : ∀ v, (v ≠ 8 ∧ v ≠ 9) → dm_RP lc (dm_f2 k l c v) V R dI dA (dm_fu n l (dm_i (dm_d (n l) 7 c) 8 c)) (M + 1) (upd a_msgType M 8) (upd a_msgTo M (nI (R l))) (upd a_msgLine M (a_frameLine (4 * c + fr l c))) (upd a_msgCore M (nI c)) (upd a_msgInfo M 0) (upd a_msgAcks M 0) a_msgWords := fun v hv => by
    rw [g2]
    exact dm_RP_post (dm_RP_k hP (Or.inl hv)) hZ.2.2.2.1 hl (by omega) hc4 (post_cm _) (fun _ _ => rfl)
  refine dm_findF hF (by omega) (by omega) (by omega) hc hl (fun _ => br_f (nI_pos (by omega)) (br_f (by decide) (br_f (by decide) (br_f (by decide) (br_t rfl ?_))))) (fun z => absurd z hk0)
  rcases hk with h | h | h | h
  · have hF' := dm_RF_rel (g := gr l c) (a := ac l c) (FS' := upd a_frameState (4 * c + fr l c) 0) (FT' := a_frameTarget) (FA' := upd a_frameAcks (4 * c + fr l c) 0) (FG' := upd a_frameGranted (4 * c + fr l c) 0) (FW' := a_frameWords) hF hZ.2.2.2.1 hZ.2.2.2.2.2 hk0 (fun j hj => ⟨pk_un hj, rfl, pk_un hj, pk_un hj, fun _ _ => rfl⟩)
    rw [dm_f2self, dm_f2self] at hF'
    exact dm_w_inv1 hq (by omega) (by rw [g3, h]; rfl) (dm_c141 (dm_IA_of ⟨hZ, hF', hH, dm_RM_kn hM' (fun _ g => mcm 0 (by rw [h]; rfl) g), dm_RQ_k hQ (Or.inl ⟨by omega, by omega⟩), pp 0 ⟨by omega, by omega⟩, hO, hV, hC, hNv⟩ (dm_LL_kn hL ⟨dm_t_inv1 hl0.1 hc4 hn h, hl0.2⟩) hl hc hp hN hgn e1 e2 e3 e4 (by rw [h]; right; right; right; right; left; omega) hk0 g1 (fun j hj => pk_un hj) (fun _ => pk_us) (fun z => absurd rfl z) (dm_Phi_n1 hl8 (dm_p_inv1 hl0.1 hc4 hn h))) hc hg K)
  · exact dm_w_inv6 hq (by omega) (by rw [g3, h]; rfl) (dm_c141 (dm_IA_of ⟨hZ, dm_RF_st hF hZ.2.2.2.1 hZ.2.2.2.2.2 hk0 (by omega) rfl (fun z => absurd rfl z), hH, dm_RM_kn hM' (fun _ g => mcm 5 (by rw [h]; rfl) g), dm_RQ_k hQ (Or.inl ⟨by omega, by omega⟩), pp 5 ⟨by omega, by omega⟩, hO, hV, hC, hNv⟩ (dm_LL_kn hL ⟨dm_t_inv6 hl0.1 hc4 hn h, hl0.2⟩) hl hc hp hN hgn e1 e2 e3 e4 (by rw [h]; right; right; left; omega) hk0 g1 (fun _ _ => rfl) (fun z => absurd z (by omega)) (fun _ => rfl) (dm_Phi_n1 hl8 (dm_p_inv6 hl0.1 hc4 hn h))) hc hg K)
  · exact dm_w_inv7 hq (by omega) (by rw [g3, h]; rfl) (dm_c141 (dm_IA_of ⟨hZ, dm_RF_st hF hZ.2.2.2.1 hZ.2.2.2.2.2 hk0 (by omega) rfl (fun z => absurd rfl z), hH, dm_RM_kn hM' (fun _ g => mcm 10 (by rw [h]; rfl) g), dm_RQ_k hQ (Or.inl ⟨by omega, by omega⟩), pp 10 ⟨by omega, by omega⟩, hO, hV, hC, hNv⟩ (dm_LL_kn hL ⟨dm_t_inv7 hl0.1 hc4 hn h, hl0.2⟩) hl hc hp hN hgn e1 e2 e3 e4 (by rw [h]; right; right; right; left; exact ⟨rfl, Or.inl rfl⟩) hk0 g1 (fun _ _ => rfl) (fun z => absurd z (by omega)) (fun _ => rfl) (dm_Phi_n1 hl8 (dm_p_inv7 hl0.1 hc4 hn h))) hc hg K)
  · exact absurd h hk13
end
end
section
theorem dm_RP_dIA {lc M l I a : Nat} {k : Nat → Nat → Nat} {V : Nat → Nat → Int32} {R dI dA : Nat → Nat} {n : Nat → Nat → Nat → Nat} {ty to ln co inf ak wds : Nat → Int32} (h : dm_RP lc k V R dI dA n M ty to ln co inf ak wds) (h9 : ∀ c, c < 4 → n l 9 c = 0 ∧ n l 10 c = 0) : dm_RP lc k V R (dm_fu dI l I) (dm_fu dA l a) n M ty to ln co inf ak wds := by
  refine dm_RP_mono h fun l' t' c' hl' ht' hc' hn to co inf ak w hm => ?_
  by_cases e : l' = l
  · subst e
    obtain ⟨q1, q2, q3, q4, q5, q6, q7, q8⟩ := hm
    refine ⟨q1, q2, q3, q4, q5, fun z => ?_, fun z => ?_, q8⟩
    · have := h9 c' hc'; rw [z] at hn; omega
    · have := h9 c' hc'; rw [z] at hn; omega
  · simp only [dm_CM, dm_fn e]; exact hm
section
variable {cc lc fc : Nat} {oc ok oa cu : Nat → Nat} {val y_acc y_opn y_fin y_cur : Nat → Int32} {gl N : Nat} {k gr fr d nd : Nat → Nat → Nat} {ac : Nat → Nat → Int} {aw R dI dA pf : Nat → Nat} {n nq : Nat → Nat → Nat → Nat} {V : Nat → Nat → Int32} {M M0 c l : Nat} {o1 o2 o3 o4 o5 o6 o7 : Nat → Int32} {f_msgGetS f_msgGetM f_msgPut f_msgDone f_msgCopyBack f_msgFwdS f_msgFwdM f_msgInv f_msgAck f_msgData f_msgGrant f_msgPutAck f_stFree f_stS f_stE f_stM f_stIS f_stIM f_stSM f_stSI f_stEI f_stMI f_stII f_coreCount f_lineCount f_frameCount f_msgCount f_inType f_inTo f_inLine f_inCore f_inInfo f_inAcks : Int32} {a_opKind a_opAddress a_opOperand a_opResult a_opPerformed a_acc a_closedCount a_nextVictim a_frameLine a_frameState a_frameTarget a_frameAcks a_frameGranted a_frameWords a_memory a_current a_homeOwner a_homeSharers a_homeNextOwner a_homeNextSharers a_homeBusy a_homeAwaits a_queueHead a_queueLength a_queueType a_queueCore a_queueInfo a_queueWords a_msgType a_msgTo a_msgLine a_msgCore a_msgInfo a_msgAcks a_msgWords a_inWords : Nat → Int32} {post : SX → Prop}
/-- what RP becomes when Done is sent -/
theorem dm_RP_done {N' : Nat → Nat → Nat} {v : Nat} (hP : dm_RP lc k V R dI dA (dm_fu n l N') M a_msgType a_msgTo a_msgLine a_msgCore a_msgInfo a_msgAcks a_msgWords) (hlc : lc ≤ 8) (hl : l < lc) (hc : c < 4) (hv : v ≠ 8 ∧ v ≠ 9) {x : Int32} (hx : x = nI l) : dm_RP lc (dm_f2 k l c v) V R dI dA (dm_fu n l (dm_i N' 3 c)) (M + 1) (upd a_msgType M 3) (upd a_msgTo M 4) (upd a_msgLine M x) (upd a_msgCore M (nI c)) (upd a_msgInfo M 0) (upd a_msgAcks M 0) a_msgWords := by
  subst hx
  exact dm_RP_post (dm_RP_k hP (Or.inl hv)) hlc hl (by omega) hc ⟨fun _ => ⟨rfl, rfl⟩, fun z => absurd z (by decide), fun z => absurd z (by decide), fun z => absurd z (by decide), fun z => absurd z (by decide), fun z => absurd z (by decide), fun z => absurd z (by decide), fun z => absurd z (by decide)⟩ (fun _ _ => rfl)
/-- Data -/
theorem dm_c_data (K : ∀ u', dm_IB cc lc fc oc ok oa cu val y_acc y_opn y_fin y_cur gl N u' → post u') (hX : dm_X cc lc fc k gr ac fr d nd aw n nq R dI dA V oc ok oa pf cu val M0 a_opKind a_opAddress a_opOperand a_opResult a_opPerformed a_acc a_nextVictim a_frameLine a_frameState a_frameTarget a_frameAcks a_frameGranted a_frameWords a_memory a_current a_homeOwner a_homeSharers a_homeNextOwner a_homeNextSharers a_homeBusy a_homeAwaits a_queueHead a_queueLength a_queueType a_queueCore a_queueInfo a_queueWords o1 o2 o3 o4 o5 o6 o7) (hL : dm_LL 8 k gr ac d nd aw n nq R dI dA cu) (hl : l < lc) (hc : c < cc) (hM : M ≤ 80) (hp : ∀ e, e < 4 → dm_PU fc oc ok oa pf k a_frameLine e) (hN : dm_Phi n nq gr + dm_s4 (dm_Psi oc ok oa pf k) ≤ N + 1) (hgn : ∀ e, e < 4 → dm_gn (k gl e)) (e1 : a_acc = y_acc) (e2 : a_opOperand = y_opn) (e3 : a_closedCount = y_fin) (e4 : a_current = y_cur) (hg : ∀ e, e < 4 → oc e = 1 → oa e / 4 ≠ gl) (hP : dm_RP lc k V R dI dA (dm_fu n l (dm_d (n l) 9 c)) M a_msgType a_msgTo a_msgLine a_msgCore a_msgInfo a_msgAcks a_msgWords) (hn : 1 ≤ n l 9 c) (hi : f_inLine = nI l) (ht : f_inType = 9) (hinf : f_inInfo = nI (dI l)) (hak : f_inAcks = nI (dA l)) (hw : ∀ i, i < 4 → a_inWords i = V l i) : wpX_coreReceives post (f_msgGetS, f_msgGetM, f_msgPut, f_msgDone, f_msgCopyBack, f_msgFwdS, f_msgFwdM, f_msgInv, f_msgAck, f_msgData, f_msgGrant, f_msgPutAck, f_stFree, f_stS, f_stE, f_stM, f_stIS, f_stIM, f_stSM, f_stSI, f_stEI, f_stMI, f_stII, nI cc, nI lc, nI fc, nI M, f_inType, f_inTo, f_inLine, f_inCore, f_inInfo, f_inAcks, a_opKind, a_opAddress, a_opOperand, a_opResult, a_opPerformed, a_acc, a_closedCount, a_nextVictim, a_frameLine, a_frameState, a_frameTarget, a_frameAcks, a_frameGranted, a_frameWords, a_memory, a_current, a_homeOwner, a_homeSharers, a_homeNextOwner, a_homeNextSharers, a_homeBusy, a_homeAwaits, a_queueHead, a_queueLength, a_queueType, a_queueCore, a_queueInfo, a_queueWords, a_msgType, a_msgTo, a_msgLine, a_msgCore, a_msgInfo, a_msgAcks, a_msgWords, a_inWords) (nI c) := by
  subst hi ht
  obtain ⟨hZ, hF, hH, hM', hQ, _, hO, hV, hC, hNv⟩ := hX
  have hc4 : c < 4 := by omega
  have hl8 : l < 8 := by omega
  have hl0 := hL l hl8
  obtain ⟨d1, d2, d3, d4, d5, d6, d7, d8, d9, d10⟩ := dm_g_data hl0.1 hc4 hn
  have hk0 : k l c ≠ 0 := by omega
  obtain ⟨g1, g2, g3, g4, g5, g6, g7⟩ := dm_RF_at hF hk0
  have hq : 4 * c + fr l c < 16 := by omega
  have hacc : (upd a_frameAcks (4 * c + fr l c) (a_frameAcks (4 * c + fr l c) + f_inAcks)) (4 * c + fr l c) = dm_iI (ac l c + dA l) := by rw [pk_us, g4, hak, dm_iI_addN]
  have hgra : ¬ (upd a_frameGranted (4 * c + fr l c) 1) (4 * c + fr l c) = 0 := by rw [pk_us]; decide
  refine dm_findF hF (by omega) (by omega) (by omega) hc hl (fun _ => br_f (nI_pos (by omega)) (br_t rfl (dm_w_tgD hq rfl ?_))) (fun z => absurd z hk0)
  by_cases hz : (dA l : Int) + ac l c = 0
  · obtain ⟨s1, s2, s3, s4⟩ := dm_g_dataC hl0.1 hc4 hn hz
    have hz0 : dm_iI (ac l c + dA l) = 0 := by rw [show ac l c + (dA l : Int) = 0 from by omega]; rfl
    have hF' := dm_RF_set (v := dI l) (g := gr l c) (a := 0) (FS' := upd a_frameState (4 * c + fr l c) ((upd a_frameTarget (4 * c + fr l c) f_inInfo) (4 * c + fr l c))) (FT' := upd a_frameTarget (4 * c + fr l c) f_inInfo) (FA' := upd a_frameAcks (4 * c + fr l c) (a_frameAcks (4 * c + fr l c) + f_inAcks)) (FG' := upd (upd a_frameGranted (4 * c + fr l c) 1) (4 * c + fr l c) 0) (FW' := dm_cp a_frameWords (4 * (4 * c + fr l c)) a_inWords 0 4) hF hZ.2.2.2.1 hZ.2.2.2.2.2 hk0 (by omega)
      ⟨g2, by rw [pk_us, pk_us, hinf, dm_st, if_pos (by omega)], by rw [hacc, hz0]; rfl, by rw [pk_us, d6]; rfl, fun z => absurd z (by omega), fun _ i hi => by rw [dm_cpi hi, Nat.zero_add]; exact hw i hi⟩
      (fun j hj => ⟨pk_un hj, pk_un hj, pk_un hj, by rw [pk_un hj, pk_un hj], fun i hi => dm_cpo (by omega)⟩)
    rw [dm_f2self] at hF'
    have hL' := dm_LL_set (l := l) hL ⟨s1, hl0.2⟩
    simp only [dm_fself] at hL'
    exact dm_w_cir1 hq (by omega) hgra (hacc.trans hz0) (dm_c141 (dm_IA_of ⟨hZ, hF', hH, dm_RM_kn hM' (fun _ g => s4 g), dm_RQ_k hQ (Or.inl ⟨by omega, by omega⟩), dm_RP_done hP hZ.2.2.2.1 hl hc4 ⟨by omega, by omega⟩ g2, hO, hV, hC, hNv⟩ hL' hl hc hp hN hgn e1 e2 e3 e4 s3 hk0 g1 (fun _ _ => rfl) (fun z => absurd z (by omega)) (fun _ => rfl) (dm_Phi_n1 hl8 s2)) hc hg K)
  · obtain ⟨s1, s2, s3, s4⟩ := dm_g_dataW hl0.1 hc4 hn hz
    have hz0 : ¬ dm_iI (ac l c + dA l) = 0 := fun z => by
      rw [dm_iI_0 (by omega) (by omega)] at z; omega
    have hF' := dm_RF_set (v := k l c) (g := 1) (a := ac l c + dA l) (FS' := a_frameState) (FT' := upd a_frameTarget (4 * c + fr l c) f_inInfo) (FA' := upd a_frameAcks (4 * c + fr l c) (a_frameAcks (4 * c + fr l c) + f_inAcks)) (FG' := upd a_frameGranted (4 * c + fr l c) 1) (FW' := dm_cp a_frameWords (4 * (4 * c + fr l c)) a_inWords 0 4) hF hZ.2.2.2.1 hZ.2.2.2.2.2 hk0 hk0
      ⟨g2, g3, hacc, by rw [pk_us]; rfl, fun _ => by rw [pk_us, hinf, d9 hz]; rfl, fun _ i hi => by rw [dm_cpi hi, Nat.zero_add]; exact hw i hi⟩
      (fun j hj => ⟨rfl, pk_un hj, pk_un hj, pk_un hj, fun i hi => dm_cpo (by omega)⟩)
    have hL' := dm_LL_set (l := l) hL ⟨s1, hl0.2⟩
    simp only [dm_fself] at hL'
    have hM2 : dm_RM lc (dm_f2 k l c (k l c)) (dm_fu n l (dm_d (n l) 9 c)) dI cu V a_memory := dm_RM_kn hM' (fun _ g => s4 (by rw [dm_fself] at g; exact g))
    have hQ2 := hQ
    rw [← dm_f2self (f := k) (i := l) (j := c)] at hQ2
    have hP2 := hP
    rw [← dm_f2self (f := k) (i := l) (j := c)] at hP2
    have hL2 := hL'
    rw [← dm_f2self (f := k) (i := l) (j := c)] at hL2
    exact dm_w_cir0 hq (Or.inr (by rw [hacc]; exact hz0)) (dm_c141 (dm_IA_of (v := k l c) ⟨hZ, hF', hH, hM2, hQ2, hP2, hO, hV, hC, hNv⟩ hL2 hl hc hp hN hgn e1 e2 e3 e4 s3 hk0 g1 (fun _ _ => rfl) (fun z => absurd z hk0) (fun _ => rfl) (dm_Phi_g1 hl8 s2)) hc hg K)
/-- Grant -/
theorem dm_c_gran (K : ∀ u', dm_IB cc lc fc oc ok oa cu val y_acc y_opn y_fin y_cur gl N u' → post u') (hX : dm_X cc lc fc k gr ac fr d nd aw n nq R dI dA V oc ok oa pf cu val M0 a_opKind a_opAddress a_opOperand a_opResult a_opPerformed a_acc a_nextVictim a_frameLine a_frameState a_frameTarget a_frameAcks a_frameGranted a_frameWords a_memory a_current a_homeOwner a_homeSharers a_homeNextOwner a_homeNextSharers a_homeBusy a_homeAwaits a_queueHead a_queueLength a_queueType a_queueCore a_queueInfo a_queueWords o1 o2 o3 o4 o5 o6 o7) (hL : dm_LL 8 k gr ac d nd aw n nq R dI dA cu) (hl : l < lc) (hc : c < cc) (hM : M ≤ 80) (hp : ∀ e, e < 4 → dm_PU fc oc ok oa pf k a_frameLine e) (hN : dm_Phi n nq gr + dm_s4 (dm_Psi oc ok oa pf k) ≤ N + 1) (hgn : ∀ e, e < 4 → dm_gn (k gl e)) (e1 : a_acc = y_acc) (e2 : a_opOperand = y_opn) (e3 : a_closedCount = y_fin) (e4 : a_current = y_cur) (hg : ∀ e, e < 4 → oc e = 1 → oa e / 4 ≠ gl) (hP : dm_RP lc k V R dI dA (dm_fu n l (dm_d (n l) 10 c)) M a_msgType a_msgTo a_msgLine a_msgCore a_msgInfo a_msgAcks a_msgWords) (hn : 1 ≤ n l 10 c) (hi : f_inLine = nI l) (ht : f_inType = 10) (hinf : f_inInfo = 2) (hak : f_inAcks = nI (dA l)) : wpX_coreReceives post (f_msgGetS, f_msgGetM, f_msgPut, f_msgDone, f_msgCopyBack, f_msgFwdS, f_msgFwdM, f_msgInv, f_msgAck, f_msgData, f_msgGrant, f_msgPutAck, f_stFree, f_stS, f_stE, f_stM, f_stIS, f_stIM, f_stSM, f_stSI, f_stEI, f_stMI, f_stII, nI cc, nI lc, nI fc, nI M, f_inType, f_inTo, f_inLine, f_inCore, f_inInfo, f_inAcks, a_opKind, a_opAddress, a_opOperand, a_opResult, a_opPerformed, a_acc, a_closedCount, a_nextVictim, a_frameLine, a_frameState, a_frameTarget, a_frameAcks, a_frameGranted, a_frameWords, a_memory, a_current, a_homeOwner, a_homeSharers, a_homeNextOwner, a_homeNextSharers, a_homeBusy, a_homeAwaits, a_queueHead, a_queueLength, a_queueType, a_queueCore, a_queueInfo, a_queueWords, a_msgType, a_msgTo, a_msgLine, a_msgCore, a_msgInfo, a_msgAcks, a_msgWords, a_inWords) (nI c) := by
  subst hi ht
  obtain ⟨hZ, hF, hH, hM', hQ, _, hO, hV, hC, hNv⟩ := hX
  have hc4 : c < 4 := by omega
  have hl8 : l < 8 := by omega
  have hl0 := hL l hl8
  obtain ⟨d1, d2, d6, d7, d8, d9⟩ := dm_g_gran hl0.1 hc4 hn
  have hk0 : k l c ≠ 0 := by omega
  obtain ⟨g1, g2, g3, g4, g5, g6, g7⟩ := dm_RF_at hF hk0
  have hq : 4 * c + fr l c < 16 := by omega
  have hro : dm_ro (k l c) ≠ 0 := by rw [d2]; decide
  have hacc : (upd a_frameAcks (4 * c + fr l c) (a_frameAcks (4 * c + fr l c) + f_inAcks)) (4 * c + fr l c) = dm_iI (ac l c + dA l) := by rw [pk_us, g4, hak, dm_iI_addN]
  have hgra : ¬ (upd a_frameGranted (4 * c + fr l c) 1) (4 * c + fr l c) = 0 := by rw [pk_us]; decide
  refine dm_findF hF (by omega) (by omega) (by omega) hc hl (fun _ => br_f (nI_pos (by omega)) (br_f (by decide) (br_t rfl (dm_w_tgG hq (by decide) ?_)))) (fun z => absurd z hk0)
  by_cases hz : (dA l : Int) + ac l c = 0
  · obtain ⟨s1, s2, s3, s4⟩ := dm_g_granC hl0.1 hc4 hn hz
    have hz0 : dm_iI (ac l c + dA l) = 0 := by rw [show ac l c + (dA l : Int) = 0 from by omega]; rfl
    have hF' := dm_RF_set (v := 2) (g := gr l c) (a := 0) (FS' := upd a_frameState (4 * c + fr l c) ((upd a_frameTarget (4 * c + fr l c) f_inInfo) (4 * c + fr l c))) (FT' := upd a_frameTarget (4 * c + fr l c) f_inInfo) (FA' := upd a_frameAcks (4 * c + fr l c) (a_frameAcks (4 * c + fr l c) + f_inAcks)) (FG' := upd (upd a_frameGranted (4 * c + fr l c) 1) (4 * c + fr l c) 0) (FW' := a_frameWords) hF hZ.2.2.2.1 hZ.2.2.2.2.2 hk0 (by omega)
      ⟨g2, by rw [pk_us, pk_us, hinf]; rfl, by rw [hacc, hz0]; rfl, by rw [pk_us, d6]; rfl, fun z => absurd z (by omega), fun _ => g7 (Or.inl hro)⟩
      (fun j hj => ⟨pk_un hj, pk_un hj, pk_un hj, by rw [pk_un hj, pk_un hj], fun i hi => rfl⟩)
    rw [dm_f2self] at hF'
    have hL' := dm_LL_set (l := l) hL ⟨s1, hl0.2⟩
    simp only [dm_fself] at hL'
    exact dm_w_cir1 hq (by omega) hgra (hacc.trans hz0) (dm_c141 (dm_IA_of ⟨hZ, hF', hH, dm_RM_kn hM' (fun _ g => s4 g), dm_RQ_k hQ (Or.inl ⟨by omega, by omega⟩), dm_RP_done hP hZ.2.2.2.1 hl hc4 ⟨by omega, by omega⟩ g2, hO, hV, hC, hNv⟩ hL' hl hc hp hN hgn e1 e2 e3 e4 s3 hk0 g1 (fun _ _ => rfl) (fun z => absurd z (by omega)) (fun _ => rfl) (dm_Phi_n1 hl8 s2)) hc hg K)
  · obtain ⟨s1, s2, s3, s4⟩ := dm_g_granW hl0.1 hc4 hn hz
    have hz0 : ¬ dm_iI (ac l c + dA l) = 0 := fun z => by
      rw [dm_iI_0 (by omega) (by omega)] at z; omega
    have hF' := dm_RF_set (v := k l c) (g := 1) (a := ac l c + dA l) (FS' := a_frameState) (FT' := upd a_frameTarget (4 * c + fr l c) f_inInfo) (FA' := upd a_frameAcks (4 * c + fr l c) (a_frameAcks (4 * c + fr l c) + f_inAcks)) (FG' := upd a_frameGranted (4 * c + fr l c) 1) (FW' := a_frameWords) hF hZ.2.2.2.1 hZ.2.2.2.2.2 hk0 hk0
      ⟨g2, g3, hacc, by rw [pk_us]; rfl, fun _ => by rw [pk_us, hinf], fun _ => g7 (Or.inl hro)⟩
      (fun j hj => ⟨rfl, pk_un hj, pk_un hj, pk_un hj, fun i hi => rfl⟩)
    have hL' := dm_LL_set (l := l) hL ⟨s1, hl0.2⟩
    simp only [dm_fself] at hL'
    have hM2 : dm_RM lc (dm_f2 k l c (k l c)) (dm_fu n l (dm_d (n l) 10 c)) dI cu V a_memory := dm_RM_kn hM' (fun _ g => s4 (by rw [dm_fself] at g; exact g))
    have hQ2 := hQ
    rw [← dm_f2self (f := k) (i := l) (j := c)] at hQ2
    have hP2 := hP
    rw [← dm_f2self (f := k) (i := l) (j := c)] at hP2
    have hL2 := hL'
    rw [← dm_f2self (f := k) (i := l) (j := c)] at hL2
    exact dm_w_cir0 hq (Or.inr (by rw [hacc]; exact hz0)) (dm_c141 (dm_IA_of (v := k l c) ⟨hZ, hF', hH, hM2, hQ2, hP2, hO, hV, hC, hNv⟩ hL2 hl hc hp hN hgn e1 e2 e3 e4 s3 hk0 g1 (fun _ _ => rfl) (fun z => absurd z hk0) (fun _ => rfl) (dm_Phi_g1 hl8 s2)) hc hg K)
/-- Ack: its sender is s -/
theorem dm_c_ack (K : ∀ u', dm_IB cc lc fc oc ok oa cu val y_acc y_opn y_fin y_cur gl N u' → post u') (hX : dm_X cc lc fc k gr ac fr d nd aw n nq R dI dA V oc ok oa pf cu val M0 a_opKind a_opAddress a_opOperand a_opResult a_opPerformed a_acc a_nextVictim a_frameLine a_frameState a_frameTarget a_frameAcks a_frameGranted a_frameWords a_memory a_current a_homeOwner a_homeSharers a_homeNextOwner a_homeNextSharers a_homeBusy a_homeAwaits a_queueHead a_queueLength a_queueType a_queueCore a_queueInfo a_queueWords o1 o2 o3 o4 o5 o6 o7) (hL : dm_LL 8 k gr ac d nd aw n nq R dI dA cu) (hl : l < lc) (hc : c < cc) (hM : M ≤ 80) (hp : ∀ e, e < 4 → dm_PU fc oc ok oa pf k a_frameLine e) (hN : dm_Phi n nq gr + dm_s4 (dm_Psi oc ok oa pf k) ≤ N + 1) (hgn : ∀ e, e < 4 → dm_gn (k gl e)) (e1 : a_acc = y_acc) (e2 : a_opOperand = y_opn) (e3 : a_closedCount = y_fin) (e4 : a_current = y_cur) (hg : ∀ e, e < 4 → oc e = 1 → oa e / 4 ≠ gl) {s : Nat} (hs : s < 4) (hR : R l = c) (hP : dm_RP lc k V R dI dA (dm_fu n l (dm_d (n l) 8 s)) M a_msgType a_msgTo a_msgLine a_msgCore a_msgInfo a_msgAcks a_msgWords) (hn : 1 ≤ n l 8 s) (hi : f_inLine = nI l) (ht : f_inType = 8) : wpX_coreReceives post (f_msgGetS, f_msgGetM, f_msgPut, f_msgDone, f_msgCopyBack, f_msgFwdS, f_msgFwdM, f_msgInv, f_msgAck, f_msgData, f_msgGrant, f_msgPutAck, f_stFree, f_stS, f_stE, f_stM, f_stIS, f_stIM, f_stSM, f_stSI, f_stEI, f_stMI, f_stII, nI cc, nI lc, nI fc, nI M, f_inType, f_inTo, f_inLine, f_inCore, f_inInfo, f_inAcks, a_opKind, a_opAddress, a_opOperand, a_opResult, a_opPerformed, a_acc, a_closedCount, a_nextVictim, a_frameLine, a_frameState, a_frameTarget, a_frameAcks, a_frameGranted, a_frameWords, a_memory, a_current, a_homeOwner, a_homeSharers, a_homeNextOwner, a_homeNextSharers, a_homeBusy, a_homeAwaits, a_queueHead, a_queueLength, a_queueType, a_queueCore, a_queueInfo, a_queueWords, a_msgType, a_msgTo, a_msgLine, a_msgCore, a_msgInfo, a_msgAcks, a_msgWords, a_inWords) (nI c) := by
  subst hi ht hR
  obtain ⟨hZ, hF, hH, hM', hQ, _, hO, hV, hC, hNv⟩ := hX
  have hc4 : R l < 4 := by omega
  have hl8 : l < 8 := by omega
  have hl0 := hL l hl8
  obtain ⟨d1, d2, d3, d4⟩ := dm_g_ack hl0.1 hs hn
  have hk0 : k l (R l) ≠ 0 := by omega
  obtain ⟨g1, g2, g3, g4, g5, g6, g7⟩ := dm_RF_at hF hk0
  have hq : 4 * R l + fr l (R l) < 16 := by omega
  have hcl : (nI (4 * R l + fr l (R l))).toNatClampNeg = 4 * R l + fr l (R l) := nI_clamp (by omega)
  have hvi : vp_in (nI (4 * R l + fr l (R l))) 16 := vp_in_nI hq (by omega)
  have hacc : (upd a_frameAcks (4 * R l + fr l (R l)) (a_frameAcks (4 * R l + fr l (R l)) - 1)) (4 * R l + fr l (R l)) = dm_iI (ac l (R l) - 1) := by rw [pk_us, g4, dm_iI_sub1]
  refine dm_findF hF (by omega) (by omega) (by omega) hc hl (fun _ => br_f (nI_pos (by omega)) (br_f (by decide) (br_f (by decide) (br_t rfl ⟨hvi, hvi, nm_r (e' := upd a_frameAcks (4 * R l + fr l (R l)) (a_frameAcks (4 * R l + fr l (R l)) - 1)) (by rw [hcl]) ?_⟩)))) (fun z => absurd z hk0)
  by_cases hz : gr l (R l) = 1 ∧ ac l (R l) = 1
  · have hgg := dm_g_ackC hl0.1 hs hn hz.1 hz.2
    obtain ⟨s1, s2, s3, s4⟩ := hgg
    have hz0 : dm_iI (ac l (R l) - 1) = 0 := by rw [hz.2]; rfl
    have hF' := dm_RF_set (v := 2) (g := 0) (a := 0) (FS' := upd a_frameState (4 * R l + fr l (R l)) (a_frameTarget (4 * R l + fr l (R l)))) (FT' := a_frameTarget) (FA' := upd a_frameAcks (4 * R l + fr l (R l)) (a_frameAcks (4 * R l + fr l (R l)) - 1)) (FG' := upd a_frameGranted (4 * R l + fr l (R l)) 0) (FW' := a_frameWords) hF hZ.2.2.2.1 hZ.2.2.2.2.2 hk0 (by omega)
      ⟨g2, by rw [pk_us, g6 hz.1]; rfl, by rw [hacc, hz0]; rfl, by rw [pk_us]; rfl, fun z => absurd z (by omega), fun _ => g7 (Or.inr hz.1)⟩
      (fun j hj => ⟨pk_un hj, rfl, pk_un hj, pk_un hj, fun i hi => rfl⟩)
    have hL' := dm_LL_set (l := l) hL ⟨s1, hl0.2⟩
    simp only [dm_fself] at hL'
    exact dm_w_cir1 hq (by omega) (by rw [g5, hz.1]; decide) (hacc.trans hz0) (dm_c141 (dm_IA_of ⟨hZ, hF', hH, dm_RM_kn hM' (fun _ g => s4 g), dm_RQ_k hQ (Or.inl ⟨by omega, by omega⟩), dm_RP_done hP hZ.2.2.2.1 hl hc4 ⟨by omega, by omega⟩ g2, hO, hV, hC, hNv⟩ hL' hl hc hp hN hgn e1 e2 e3 e4 s3 hk0 g1 (fun _ _ => rfl) (fun z => absurd z (by omega)) (fun _ => rfl) (dm_Phi_g1 hl8 s2)) hc hg K)
  · have hgg := dm_g_ackW hl0.1 hs hn (by omega)
    obtain ⟨s1, s2, s3, s4⟩ := hgg
    have hF' := dm_RF_set (v := k l (R l)) (g := gr l (R l)) (a := ac l (R l) - 1) (FS' := a_frameState) (FT' := a_frameTarget) (FA' := upd a_frameAcks (4 * R l + fr l (R l)) (a_frameAcks (4 * R l + fr l (R l)) - 1)) (FG' := a_frameGranted) (FW' := a_frameWords) hF hZ.2.2.2.1 hZ.2.2.2.2.2 hk0 hk0
      ⟨g2, g3, hacc, g5, g6, g7⟩
      (fun j hj => ⟨rfl, rfl, pk_un hj, rfl, fun i hi => rfl⟩)
    rw [dm_f2self (f := gr)] at hF'
    have hL' := dm_LL_set (l := l) hL ⟨s1, hl0.2⟩
    simp only [dm_fself] at hL'
    have hM2 : dm_RM lc (dm_f2 k l (R l) (k l (R l))) (dm_fu n l (dm_d (n l) 8 s)) dI cu V a_memory := dm_RM_kn hM' (fun _ g => s4 (by rw [dm_fself] at g; exact g))
    have hnr : a_frameGranted (4 * R l + fr l (R l)) = 0 ∨ ¬ (upd a_frameAcks (4 * R l + fr l (R l)) (a_frameAcks (4 * R l + fr l (R l)) - 1)) (4 * R l + fr l (R l)) = 0 := by
      by_cases y : gr l (R l) = 1
      · right
        rw [hacc, dm_iI_0 (by have := d4 y; omega) (by have := d4 y; omega)]
        omega
      · left; rw [g5, show gr l (R l) = 0 from by omega]; rfl
    have hQ2 := hQ
    rw [← dm_f2self (f := k) (i := l) (j := R l)] at hQ2
    have hP2 := hP
    rw [← dm_f2self (f := k) (i := l) (j := R l)] at hP2
    have hL2 := hL'
    rw [← dm_f2self (f := k) (i := l) (j := R l)] at hL2
    exact dm_w_cir0 hq hnr (dm_c141 (dm_IA_of (v := k l (R l)) ⟨hZ, hF', hH, hM2, hQ2, hP2, hO, hV, hC, hNv⟩ hL2 hl hc hp hN hgn e1 e2 e3 e4 s3 hk0 g1 (fun _ _ => rfl) (fun z => absurd z hk0) (fun _ => rfl) (dm_Phi_n1 hl8 s2)) hc hg K)
/-- FwdS -/
theorem dm_c_fwds (K : ∀ u', dm_IB cc lc fc oc ok oa cu val y_acc y_opn y_fin y_cur gl N u' → post u') (hX : dm_X cc lc fc k gr ac fr d nd aw n nq R dI dA V oc ok oa pf cu val M0 a_opKind a_opAddress a_opOperand a_opResult a_opPerformed a_acc a_nextVictim a_frameLine a_frameState a_frameTarget a_frameAcks a_frameGranted a_frameWords a_memory a_current a_homeOwner a_homeSharers a_homeNextOwner a_homeNextSharers a_homeBusy a_homeAwaits a_queueHead a_queueLength a_queueType a_queueCore a_queueInfo a_queueWords o1 o2 o3 o4 o5 o6 o7) (hL : dm_LL 8 k gr ac d nd aw n nq R dI dA cu) (hl : l < lc) (hc : c < cc) (hM : M ≤ 80) (hp : ∀ e, e < 4 → dm_PU fc oc ok oa pf k a_frameLine e) (hN : dm_Phi n nq gr + dm_s4 (dm_Psi oc ok oa pf k) ≤ N + 1) (hgn : ∀ e, e < 4 → dm_gn (k gl e)) (e1 : a_acc = y_acc) (e2 : a_opOperand = y_opn) (e3 : a_closedCount = y_fin) (e4 : a_current = y_cur) (hg : ∀ e, e < 4 → oc e = 1 → oa e / 4 ≠ gl) (hP : dm_RP lc k V R dI dA (dm_fu n l (dm_d (n l) 5 c)) M a_msgType a_msgTo a_msgLine a_msgCore a_msgInfo a_msgAcks a_msgWords) (hn : 1 ≤ n l 5 c) (hi : f_inLine = nI l) (ht : f_inType = 5) (hco : f_inCore = nI (R l)) : wpX_coreReceives post (f_msgGetS, f_msgGetM, f_msgPut, f_msgDone, f_msgCopyBack, f_msgFwdS, f_msgFwdM, f_msgInv, f_msgAck, f_msgData, f_msgGrant, f_msgPutAck, f_stFree, f_stS, f_stE, f_stM, f_stIS, f_stIM, f_stSM, f_stSI, f_stEI, f_stMI, f_stII, nI cc, nI lc, nI fc, nI M, f_inType, f_inTo, f_inLine, f_inCore, f_inInfo, f_inAcks, a_opKind, a_opAddress, a_opOperand, a_opResult, a_opPerformed, a_acc, a_closedCount, a_nextVictim, a_frameLine, a_frameState, a_frameTarget, a_frameAcks, a_frameGranted, a_frameWords, a_memory, a_current, a_homeOwner, a_homeSharers, a_homeNextOwner, a_homeNextSharers, a_homeBusy, a_homeAwaits, a_queueHead, a_queueLength, a_queueType, a_queueCore, a_queueInfo, a_queueWords, a_msgType, a_msgTo, a_msgLine, a_msgCore, a_msgInfo, a_msgAcks, a_msgWords, a_inWords) (nI c) := by
  subst hi ht hco
  obtain ⟨hZ, hF, hH, hM', hQ, _, hO, hV, hC, hNv⟩ := hX
  have hc4 : c < 4 := by omega
  have hl8 : l < 8 := by omega
  have hl0 := hL l hl8
  obtain ⟨d1, d2, d3, d4, d5, d6⟩ := dm_g_fwd hl0.1 hc4 (by omega)
  have hk0 : k l c ≠ 0 := by omega
  have h17 : k l c ≤ 17 := by omega
  obtain ⟨g1, g2, g3, g4, g5, g6, g7⟩ := dm_RF_at hF hk0
  have hq : 4 * c + fr l c < 16 := by omega
  have hro : dm_ro (k l c) ≠ 0 := by rcases d3 with e | e | e | e <;> rw [e] <;> decide
  have hwv := g7 (Or.inl hro)
  have hv : ∃ v, v = (if 7 ≤ dm_st (k l c) then 7 else 1) ∧ (if 7 ≤ dm_st (k l c) then (7 : Int32) else 1) = nI (dm_st v) ∧ v ≠ 0 ∧ v ≠ 8 ∧ v ≠ 9 := by
    refine ⟨_, rfl, ?_⟩
    split <;> exact ⟨rfl, by omega, by omega, by omega⟩
  obtain ⟨v, ev, esv, hv0, hv8, hv9⟩ := hv
  obtain ⟨s1, s2, s3, s4⟩ := dm_g_fwds hl0.1 hc4 hn ev
  have hL' := dm_LL_set (l := l) hL ⟨s1, hl0.2⟩
  simp only [dm_fself] at hL'
  have h910 : ∀ e, e < 4 → dm_fu n l (dm_d (n l) 5 c) l 9 e = 0 ∧ dm_fu n l (dm_d (n l) 5 c) l 10 e = 0 := fun e he => by
    rw [dm_fs, dm_dn (by decide), dm_dn (by decide)]
    have := dm_s4_le (f := n l 9) he
    have := dm_s4_le (f := n l 10) he
    omega
  have hP1 := dm_RP_dIA (I := dI l) (a := 0) (dm_RP_k (l := l) (c := c) (v := v) hP (Or.inl ⟨hv8, hv9⟩)) h910
  rw [dm_fself] at hP1
  have hP2 := dm_RP_post (t := 9) (c := R l) (p1 := nI (R l)) (p3 := nI c) (p4 := 1) (p5 := 0) (wds' := dm_cp a_msgWords (4 * M) a_frameWords (4 * (4 * c + fr l c)) 4) hP1 hZ.2.2.2.1 hl (by omega) d1
    ⟨fun z => absurd z (by decide), fun z => absurd z (by decide), fun z => absurd z (by decide), fun _ z => absurd z (by decide), fun z => absurd z (by decide), fun _ => ⟨rfl, by rw [d6 hn]; rfl, by rw [dm_fs]; rfl, fun i hi => (dm_cpi hi).trans (hwv i hi)⟩, fun z => absurd z (by decide), fun z => absurd z (by decide)⟩ (fun x hx => dm_cpo (by omega))
  have hP3 := dm_RP_post (t := 4) (c := c) (p1 := 4) (p3 := nI c) (p4 := 0) (p5 := 0) (wds' := dm_cp (dm_cp a_msgWords (4 * M) a_frameWords (4 * (4 * c + fr l c)) 4) (4 * (M + 1)) a_frameWords (4 * (4 * c + fr l c)) 4) hP2 hZ.2.2.2.1 hl (by omega) hc4
    ⟨fun _ => ⟨rfl, rfl⟩, fun z => absurd z (by decide), fun _ i hi => (dm_cpi hi).trans (hwv i hi), fun z => absurd z (by decide), fun z => absurd z (by decide), fun z => absurd z (by decide), fun z => absurd z (by decide), fun z => absurd z (by decide)⟩ (fun x hx => dm_cpo (by omega))
  rw [← g2] at hP3
  refine dm_findF hF (by omega) (by omega) (by omega) hc hl (fun _ => br_f (nI_pos (by omega)) (br_f (by decide) (br_f (by decide) (br_f (by decide) (br_f (by decide) (br_t rfl (dm_w_pshr hq (by omega) (dm_st10 h17) g3 (dm_c141 (dm_IA_of (v := v) ⟨hZ, dm_RF_st hF hZ.2.2.2.1 hZ.2.2.2.2.2 hk0 hv0 esv (fun _ => hro), hH, dm_RM_kn hM' (fun _ g => s4 g), dm_RQ_k hQ (Or.inl ⟨hv8, hv9⟩), ?_, hO, hV, hC, hNv⟩ hL' hl hc hp hN hgn e1 e2 e3 e4 s3 hk0 g1 (fun _ _ => rfl) (fun z => absurd z hv0) (fun _ => rfl) (dm_Phi_n1 hl8 s2)) hc hg K)))))))) (fun z => absurd z hk0)
  exact hP3
/-- FwdM -/
theorem dm_c_fwdm (K : ∀ u', dm_IB cc lc fc oc ok oa cu val y_acc y_opn y_fin y_cur gl N u' → post u') (hX : dm_X cc lc fc k gr ac fr d nd aw n nq R dI dA V oc ok oa pf cu val M0 a_opKind a_opAddress a_opOperand a_opResult a_opPerformed a_acc a_nextVictim a_frameLine a_frameState a_frameTarget a_frameAcks a_frameGranted a_frameWords a_memory a_current a_homeOwner a_homeSharers a_homeNextOwner a_homeNextSharers a_homeBusy a_homeAwaits a_queueHead a_queueLength a_queueType a_queueCore a_queueInfo a_queueWords o1 o2 o3 o4 o5 o6 o7) (hL : dm_LL 8 k gr ac d nd aw n nq R dI dA cu) (hl : l < lc) (hc : c < cc) (hM : M ≤ 80) (hp : ∀ e, e < 4 → dm_PU fc oc ok oa pf k a_frameLine e) (hN : dm_Phi n nq gr + dm_s4 (dm_Psi oc ok oa pf k) ≤ N + 1) (hgn : ∀ e, e < 4 → dm_gn (k gl e)) (e1 : a_acc = y_acc) (e2 : a_opOperand = y_opn) (e3 : a_closedCount = y_fin) (e4 : a_current = y_cur) (hg : ∀ e, e < 4 → oc e = 1 → oa e / 4 ≠ gl) (hP : dm_RP lc k V R dI dA (dm_fu n l (dm_d (n l) 6 c)) M a_msgType a_msgTo a_msgLine a_msgCore a_msgInfo a_msgAcks a_msgWords) (hn : 1 ≤ n l 6 c) (hi : f_inLine = nI l) (ht : f_inType = 6) (hco : f_inCore = nI (R l)) : wpX_coreReceives post (f_msgGetS, f_msgGetM, f_msgPut, f_msgDone, f_msgCopyBack, f_msgFwdS, f_msgFwdM, f_msgInv, f_msgAck, f_msgData, f_msgGrant, f_msgPutAck, f_stFree, f_stS, f_stE, f_stM, f_stIS, f_stIM, f_stSM, f_stSI, f_stEI, f_stMI, f_stII, nI cc, nI lc, nI fc, nI M, f_inType, f_inTo, f_inLine, f_inCore, f_inInfo, f_inAcks, a_opKind, a_opAddress, a_opOperand, a_opResult, a_opPerformed, a_acc, a_closedCount, a_nextVictim, a_frameLine, a_frameState, a_frameTarget, a_frameAcks, a_frameGranted, a_frameWords, a_memory, a_current, a_homeOwner, a_homeSharers, a_homeNextOwner, a_homeNextSharers, a_homeBusy, a_homeAwaits, a_queueHead, a_queueLength, a_queueType, a_queueCore, a_queueInfo, a_queueWords, a_msgType, a_msgTo, a_msgLine, a_msgCore, a_msgInfo, a_msgAcks, a_msgWords, a_inWords) (nI c) := by
  subst hi ht hco
  obtain ⟨hZ, hF, hH, hM', hQ, _, hO, hV, hC, hNv⟩ := hX
  have hc4 : c < 4 := by omega
  have hl8 : l < 8 := by omega
  have hl0 := hL l hl8
  obtain ⟨d1, d2, d3, d4, d5, d6⟩ := dm_g_fwd hl0.1 hc4 (by omega)
  have hk0 : k l c ≠ 0 := by omega
  have h17 : k l c ≤ 17 := by omega
  obtain ⟨g1, g2, g3, g4, g5, g6, g7⟩ := dm_RF_at hF hk0
  have hq : 4 * c + fr l c < 16 := by omega
  have hro : dm_ro (k l c) ≠ 0 := by rcases d3 with e | e | e | e <;> rw [e] <;> decide
  have hwv := g7 (Or.inl hro)
  have hI : ∃ I, I = (if dm_st (k l c) = 3 ∨ dm_st (k l c) = 9 then 3 else 2) ∧ (if dm_st (k l c) = 3 ∨ dm_st (k l c) = 9 then (3 : Int32) else 2) = nI I := by
    refine ⟨_, rfl, ?_⟩
    split <;> rfl
  obtain ⟨I, eI, esI⟩ := hI
  have h910 : ∀ e, e < 4 → dm_fu n l (dm_d (n l) 6 c) l 9 e = 0 ∧ dm_fu n l (dm_d (n l) 6 c) l 10 e = 0 := fun e he => by
    rw [dm_fs, dm_dn (by decide), dm_dn (by decide)]
    have := dm_s4_le (f := n l 9) he
    have := dm_s4_le (f := n l 10) he
    omega
  have hPv : ∀ v, v ≠ 8 → v ≠ 9 → dm_RP lc (dm_f2 k l c v) V R (dm_fu dI l I) (dm_fu dA l 0) (dm_fu n l (dm_i (dm_d (n l) 6 c) 9 (R l))) (M + 1) (upd a_msgType M 9) (upd a_msgTo M (nI (R l))) (upd a_msgLine M (a_frameLine (4 * c + fr l c))) (upd a_msgCore M (nI c)) (upd a_msgInfo M (if dm_st (k l c) = 3 ∨ dm_st (k l c) = 9 then 3 else 2)) (upd a_msgAcks M 0) (dm_cp a_msgWords (4 * M) a_frameWords (4 * (4 * c + fr l c)) 4) := fun v h8 h9 => by
    have hP1 := dm_RP_dIA (I := I) (a := 0) (dm_RP_k (l := l) (c := c) (v := v) hP (Or.inl ⟨h8, h9⟩)) h910
    rw [g2]
    exact dm_RP_post (t := 9) (c := R l) hP1 hZ.2.2.2.1 hl (by omega) d1
      ⟨fun z => absurd z (by decide), fun z => absurd z (by decide), fun z => absurd z (by decide), fun _ z => absurd z (by decide), fun z => absurd z (by decide), fun _ => ⟨rfl, by rw [dm_fs]; exact esI, by rw [dm_fs]; rfl, fun i hi => (dm_cpi hi).trans (hwv i hi)⟩, fun z => absurd z (by decide), fun z => absurd z (by decide)⟩ (fun x hx => dm_cpo (by omega))
  refine dm_findF hF (by omega) (by omega) (by omega) hc hl (fun _ => br_f (nI_pos (by omega)) (br_f (by decide) (br_f (by decide) (br_f (by decide) (br_f (by decide) (br_f (by decide) (br_t rfl (dm_w_pown hq (by omega) (dm_st10 h17) g3 (fun h7 => ?_) (fun h7 => ?_))))))))) (fun z => absurd z hk0)
  · obtain ⟨s1, s2, s3, s4⟩ := dm_g_fwdm hl0.1 hc4 hn (v := 10) (by rw [if_pos h7]) eI
    have hL' := dm_LL_set (l := l) hL ⟨s1, hl0.2⟩
    simp only [dm_fself] at hL'
    have hM2 := dm_RM_set (l := l) (K := dm_fu (k l) c 10) (N := dm_i (dm_d (n l) 6 c) 9 (R l)) (I := I) (mem' := a_memory) hM' (fun g => hM' l hl (s4 g)) (fun _ _ => rfl)
    exact dm_c141 (dm_IA_of (v := 10) ⟨hZ, dm_RF_st hF hZ.2.2.2.1 hZ.2.2.2.2.2 hk0 (by omega) rfl (fun _ => hro), hH, hM2, dm_RQ_k hQ (Or.inl ⟨by omega, by omega⟩), hPv 10 (by omega) (by omega), hO, hV, hC, hNv⟩ hL' hl hc hp hN hgn e1 e2 e3 e4 s3 hk0 g1 (fun _ _ => rfl) (fun z => absurd z (by omega)) (fun _ => rfl) (dm_Phi_n1 hl8 s2)) hc hg K
  · obtain ⟨s1, s2, s3, s4⟩ := dm_g_fwdm hl0.1 hc4 hn (v := 0) (by rw [if_neg (by omega)]) eI
    have hL' := dm_LL_set (l := l) hL ⟨s1, hl0.2⟩
    simp only [dm_fself] at hL'
    have hM2 := dm_RM_set (l := l) (K := dm_fu (k l) c 0) (N := dm_i (dm_d (n l) 6 c) 9 (R l)) (I := I) (mem' := a_memory) hM' (fun g => hM' l hl (s4 g)) (fun _ _ => rfl)
    have hF' := dm_RF_rel (g := gr l c) (a := ac l c) (FS' := upd a_frameState (4 * c + fr l c) 0) (FT' := a_frameTarget) (FA' := upd a_frameAcks (4 * c + fr l c) 0) (FG' := upd a_frameGranted (4 * c + fr l c) 0) (FW' := a_frameWords) hF hZ.2.2.2.1 hZ.2.2.2.2.2 hk0 (fun j hj => ⟨pk_un hj, rfl, pk_un hj, pk_un hj, fun _ _ => rfl⟩)
    rw [dm_f2self, dm_f2self] at hF'
    exact dm_c141 (dm_IA_of (v := 0) ⟨hZ, hF', hH, hM2, dm_RQ_k hQ (Or.inl ⟨by omega, by omega⟩), hPv 0 (by omega) (by omega), hO, hV, hC, hNv⟩ hL' hl hc hp hN hgn e1 e2 e3 e4 s3 hk0 g1 (fun j hj => pk_un hj) (fun _ => pk_us) (fun z => absurd rfl z) (dm_Phi_n1 hl8 s2)) hc hg K
end
end
section
/-- the lines while the home works on line l -/
def dm_LQ (l : Nat) (k gr : Nat → Nat → Nat) (ac : Nat → Nat → Int) (d nd : Nat → Nat → Nat) (aw : Nat → Nat) (n nq : Nat → Nat → Nat → Nat) (R dI dA cu : Nat → Nat) : Prop :=
  ∀ x, x < 8 → dm_L0 (k x) (gr x) (ac x) (d x) (nd x) (aw x) (n x) (nq x) (R x) (dI x) (dA x) (cu x) ∧ (x ≠ l → aw x = 0 → dm_NQ (nq x) = 0)
theorem dm_LQ_set {l : Nat} {k gr : Nat → Nat → Nat} {ac : Nat → Nat → Int} {d nd : Nat → Nat → Nat} {aw : Nat → Nat} {n nq : Nat → Nat → Nat → Nat} {R dI dA cu : Nat → Nat} {k' gr' : Nat → Nat} {ac' : Nat → Int} {d' nd' : Nat → Nat} {aw' : Nat} {n' nq' : Nat → Nat → Nat} {R' dI' dA' : Nat}
    (h : dm_LQ l k gr ac d nd aw n nq R dI dA cu) (h1 : dm_L0 k' gr' ac' d' nd' aw' n' nq' R' dI' dA' (cu l)) :
    dm_LQ l (dm_fu k l k') (dm_fu gr l gr') (dm_fu ac l ac') (dm_fu d l d') (dm_fu nd l nd') (dm_fu aw l aw') (dm_fu n l n') (dm_fu nq l nq') (dm_fu R l R') (dm_fu dI l dI') (dm_fu dA l dA') cu := by
  intro x hx
  by_cases e : x = l
  · subst e; simp only [dm_fs]; exact ⟨h1, fun z => absurd rfl z⟩
  · simp only [dm_fn e]; exact h x hx
def dm_IH (cc lc fc : Nat) (oc ok oa cu : Nat → Nat) (val y_acc y_opn y_fin y_cur : Nat → Int32) (gl N : Nat) (l MB QB : Nat) (u : SX) : Prop := match u with
  | (f_msgGetS, f_msgGetM, f_msgPut, f_msgDone, f_msgCopyBack, f_msgFwdS, f_msgFwdM, f_msgInv, f_msgAck, f_msgData, f_msgGrant, f_msgPutAck, f_stFree, f_stS, f_stE, f_stM, f_stIS, f_stIM, f_stSM, f_stSI, f_stEI, f_stMI, f_stII, f_coreCount, f_lineCount, f_frameCount, f_msgCount, f_inType, f_inTo, f_inLine, f_inCore, f_inInfo, f_inAcks, a_opKind, a_opAddress, a_opOperand, a_opResult, a_opPerformed, a_acc, a_closedCount, a_nextVictim, a_frameLine, a_frameState, a_frameTarget, a_frameAcks, a_frameGranted, a_frameWords, a_memory, a_current, a_homeOwner, a_homeSharers, a_homeNextOwner, a_homeNextSharers, a_homeBusy, a_homeAwaits, a_queueHead, a_queueLength, a_queueType, a_queueCore, a_queueInfo, a_queueWords, a_msgType, a_msgTo, a_msgLine, a_msgCore, a_msgInfo, a_msgAcks, a_msgWords, a_inWords) => ∃ (k gr : Nat → Nat → Nat) (ac : Nat → Nat → Int) (fr d nd : Nat → Nat → Nat) (aw : Nat → Nat) (n nq : Nat → Nat → Nat → Nat) (R dI dA : Nat → Nat) (V : Nat → Nat → Int32) (pf : Nat → Nat) (M : Nat), f_coreCount = nI cc ∧ f_lineCount = nI lc ∧ f_frameCount = nI fc ∧ f_msgCount = nI M ∧ a_acc = y_acc ∧ a_opOperand = y_opn ∧ a_closedCount = y_fin ∧ a_current = y_cur ∧ dm_X cc lc fc k gr ac fr d nd aw n nq R dI dA V oc ok oa pf cu val M a_opKind a_opAddress a_opOperand a_opResult a_opPerformed a_acc a_nextVictim a_frameLine a_frameState a_frameTarget a_frameAcks a_frameGranted a_frameWords a_memory a_current a_homeOwner a_homeSharers a_homeNextOwner a_homeNextSharers a_homeBusy a_homeAwaits a_queueHead a_queueLength a_queueType a_queueCore a_queueInfo a_queueWords a_msgType a_msgTo a_msgLine a_msgCore a_msgInfo a_msgAcks a_msgWords ∧ dm_LQ l k gr ac d nd aw n nq R dI dA cu ∧ (∀ e, e < 4 → dm_PU fc oc ok oa pf k a_frameLine e) ∧ dm_Phi n nq gr + dm_s4 (dm_Psi oc ok oa pf k) ≤ N ∧ (∀ e, e < 4 → dm_gn (k gl e)) ∧ M ≤ MB ∧ dm_NQ (nq l) ≤ QB
section
variable {cc lc fc : Nat} {oc ok oa cu : Nat → Nat} {val y_acc y_opn y_fin y_cur : Nat → Int32} {gl N : Nat} {k gr fr d nd : Nat → Nat → Nat} {ac : Nat → Nat → Int} {aw R dI dA pf : Nat → Nat} {n nq : Nat → Nat → Nat → Nat} {V : Nat → Nat → Int32} {M l MB QB : Nat} {f_msgGetS f_msgGetM f_msgPut f_msgDone f_msgCopyBack f_msgFwdS f_msgFwdM f_msgInv f_msgAck f_msgData f_msgGrant f_msgPutAck f_stFree f_stS f_stE f_stM f_stIS f_stIM f_stSM f_stSI f_stEI f_stMI f_stII f_coreCount f_lineCount f_frameCount f_msgCount f_inType f_inTo f_inLine f_inCore f_inInfo f_inAcks : Int32} {a_opKind a_opAddress a_opOperand a_opResult a_opPerformed a_acc a_closedCount a_nextVictim a_frameLine a_frameState a_frameTarget a_frameAcks a_frameGranted a_frameWords a_memory a_current a_homeOwner a_homeSharers a_homeNextOwner a_homeNextSharers a_homeBusy a_homeAwaits a_queueHead a_queueLength a_queueType a_queueCore a_queueInfo a_queueWords a_msgType a_msgTo a_msgLine a_msgCore a_msgInfo a_msgAcks a_msgWords a_inWords : Nat → Int32}
theorem dm_IH_mk (hX : dm_X cc lc fc k gr ac fr d nd aw n nq R dI dA V oc ok oa pf cu val M a_opKind a_opAddress a_opOperand a_opResult a_opPerformed a_acc a_nextVictim a_frameLine a_frameState a_frameTarget a_frameAcks a_frameGranted a_frameWords a_memory a_current a_homeOwner a_homeSharers a_homeNextOwner a_homeNextSharers a_homeBusy a_homeAwaits a_queueHead a_queueLength a_queueType a_queueCore a_queueInfo a_queueWords a_msgType a_msgTo a_msgLine a_msgCore a_msgInfo a_msgAcks a_msgWords) (hL : dm_LQ l k gr ac d nd aw n nq R dI dA cu) (hp : ∀ e, e < 4 → dm_PU fc oc ok oa pf k a_frameLine e) (hN : dm_Phi n nq gr + dm_s4 (dm_Psi oc ok oa pf k) ≤ N) (hg : ∀ e, e < 4 → dm_gn (k gl e))
    (e1 : a_acc = y_acc) (e2 : a_opOperand = y_opn) (e3 : a_closedCount = y_fin) (e4 : a_current = y_cur) (hM : M ≤ MB) (hQ : dm_NQ (nq l) ≤ QB) : dm_IH cc lc fc oc ok oa cu val y_acc y_opn y_fin y_cur gl N l MB QB (f_msgGetS, f_msgGetM, f_msgPut, f_msgDone, f_msgCopyBack, f_msgFwdS, f_msgFwdM, f_msgInv, f_msgAck, f_msgData, f_msgGrant, f_msgPutAck, f_stFree, f_stS, f_stE, f_stM, f_stIS, f_stIM, f_stSM, f_stSI, f_stEI, f_stMI, f_stII, nI cc, nI lc, nI fc, nI M, f_inType, f_inTo, f_inLine, f_inCore, f_inInfo, f_inAcks, a_opKind, a_opAddress, a_opOperand, a_opResult, a_opPerformed, a_acc, a_closedCount, a_nextVictim, a_frameLine, a_frameState, a_frameTarget, a_frameAcks, a_frameGranted, a_frameWords, a_memory, a_current, a_homeOwner, a_homeSharers, a_homeNextOwner, a_homeNextSharers, a_homeBusy, a_homeAwaits, a_queueHead, a_queueLength, a_queueType, a_queueCore, a_queueInfo, a_queueWords, a_msgType, a_msgTo, a_msgLine, a_msgCore, a_msgInfo, a_msgAcks, a_msgWords, a_inWords) :=
  ⟨k, gr, ac, fr, d, nd, aw, n, nq, R, dI, dA, V, pf, M, rfl, rfl, rfl, rfl, e1, e2, e3, e4, hX, hL, hp, hN, hg, hM, hQ⟩
theorem dm_LQ_LL (hL : dm_LQ l k gr ac d nd aw n nq R dI dA cu) (h : aw l = 0 → dm_NQ (nq l) = 0) : dm_LL 8 k gr ac d nd aw n nq R dI dA cu := by
  intro x hx
  refine ⟨(hL x hx).1, fun z => ?_⟩
  by_cases e : x = l
  · subst e; exact h z
  · exact (hL x hx).2 e z
theorem dm_LL_LQ (hL : dm_LL 8 k gr ac d nd aw n nq R dI dA cu) : dm_LQ l k gr ac d nd aw n nq R dI dA cu := fun x hx => ⟨(hL x hx).1, fun _ => (hL x hx).2⟩
end
theorem dm_IH_el {cc lc fc : Nat} {oc ok oa cu : Nat → Nat} {val y_acc y_opn y_fin y_cur : Nat → Int32} {gl N : Nat} {l MB QB : Nat} {P : SX → Prop} (h : ∀ (k gr : Nat → Nat → Nat) (ac : Nat → Nat → Int) (fr d nd : Nat → Nat → Nat) (aw : Nat → Nat) (n nq : Nat → Nat → Nat → Nat) (R dI dA : Nat → Nat) (V : Nat → Nat → Int32) (pf : Nat → Nat) (M : Nat) (f_msgGetS f_msgGetM f_msgPut f_msgDone f_msgCopyBack f_msgFwdS f_msgFwdM f_msgInv f_msgAck f_msgData f_msgGrant f_msgPutAck f_stFree f_stS f_stE f_stM f_stIS f_stIM f_stSM f_stSI f_stEI f_stMI f_stII f_coreCount f_lineCount f_frameCount f_msgCount f_inType f_inTo f_inLine f_inCore f_inInfo f_inAcks : Int32) (a_opKind a_opAddress a_opOperand a_opResult a_opPerformed a_acc a_closedCount a_nextVictim a_frameLine a_frameState a_frameTarget a_frameAcks a_frameGranted a_frameWords a_memory a_current a_homeOwner a_homeSharers a_homeNextOwner a_homeNextSharers a_homeBusy a_homeAwaits a_queueHead a_queueLength a_queueType a_queueCore a_queueInfo a_queueWords a_msgType a_msgTo a_msgLine a_msgCore a_msgInfo a_msgAcks a_msgWords a_inWords : Nat → Int32), dm_X cc lc fc k gr ac fr d nd aw n nq R dI dA V oc ok oa pf cu val M a_opKind a_opAddress a_opOperand a_opResult a_opPerformed a_acc a_nextVictim a_frameLine a_frameState a_frameTarget a_frameAcks a_frameGranted a_frameWords a_memory a_current a_homeOwner a_homeSharers a_homeNextOwner a_homeNextSharers a_homeBusy a_homeAwaits a_queueHead a_queueLength a_queueType a_queueCore a_queueInfo a_queueWords a_msgType a_msgTo a_msgLine a_msgCore a_msgInfo a_msgAcks a_msgWords → dm_LQ l k gr ac d nd aw n nq R dI dA cu → (∀ e, e < 4 → dm_PU fc oc ok oa pf k a_frameLine e) → dm_Phi n nq gr + dm_s4 (dm_Psi oc ok oa pf k) ≤ N → (∀ e, e < 4 → dm_gn (k gl e)) → a_acc = y_acc → a_opOperand = y_opn → a_closedCount = y_fin → a_current = y_cur → M ≤ MB → dm_NQ (nq l) ≤ QB → P (f_msgGetS, f_msgGetM, f_msgPut, f_msgDone, f_msgCopyBack, f_msgFwdS, f_msgFwdM, f_msgInv, f_msgAck, f_msgData, f_msgGrant, f_msgPutAck, f_stFree, f_stS, f_stE, f_stM, f_stIS, f_stIM, f_stSM, f_stSI, f_stEI, f_stMI, f_stII, nI cc, nI lc, nI fc, nI M, f_inType, f_inTo, f_inLine, f_inCore, f_inInfo, f_inAcks, a_opKind, a_opAddress, a_opOperand, a_opResult, a_opPerformed, a_acc, a_closedCount, a_nextVictim, a_frameLine, a_frameState, a_frameTarget, a_frameAcks, a_frameGranted, a_frameWords, a_memory, a_current, a_homeOwner, a_homeSharers, a_homeNextOwner, a_homeNextSharers, a_homeBusy, a_homeAwaits, a_queueHead, a_queueLength, a_queueType, a_queueCore, a_queueInfo, a_queueWords, a_msgType, a_msgTo, a_msgLine, a_msgCore, a_msgInfo, a_msgAcks, a_msgWords, a_inWords)) {u : SX} (I : dm_IH cc lc fc oc ok oa cu val y_acc y_opn y_fin y_cur gl N l MB QB u) : P u := by
  revert I
  refine dm_el (P := fun u => dm_IH cc lc fc oc ok oa cu val y_acc y_opn y_fin y_cur gl N l MB QB u → P u) ?_ u
  intro f_msgGetS f_msgGetM f_msgPut f_msgDone f_msgCopyBack f_msgFwdS f_msgFwdM f_msgInv f_msgAck f_msgData f_msgGrant f_msgPutAck f_stFree f_stS f_stE f_stM f_stIS f_stIM f_stSM f_stSI f_stEI f_stMI f_stII f_coreCount f_lineCount f_frameCount f_msgCount f_inType f_inTo f_inLine f_inCore f_inInfo f_inAcks a_opKind a_opAddress a_opOperand a_opResult a_opPerformed a_acc a_closedCount a_nextVictim a_frameLine a_frameState a_frameTarget a_frameAcks a_frameGranted a_frameWords a_memory a_current a_homeOwner a_homeSharers a_homeNextOwner a_homeNextSharers a_homeBusy a_homeAwaits a_queueHead a_queueLength a_queueType a_queueCore a_queueInfo a_queueWords a_msgType a_msgTo a_msgLine a_msgCore a_msgInfo a_msgAcks a_msgWords a_inWords
  rintro ⟨k, gr, ac, fr, d, nd, aw, n, nq, R, dI, dA, V, pf, M, e1, e2, e3, e4, e5, e6, e7, e8, hX, hL, hp, hN, hg, hM, hQ⟩
  have := h k gr ac fr d nd aw n nq R dI dA V pf M f_msgGetS f_msgGetM f_msgPut f_msgDone f_msgCopyBack f_msgFwdS f_msgFwdM f_msgInv f_msgAck f_msgData f_msgGrant f_msgPutAck f_stFree f_stS f_stE f_stM f_stIS f_stIM f_stSM f_stSI f_stEI f_stMI f_stII f_coreCount f_lineCount f_frameCount f_msgCount f_inType f_inTo f_inLine f_inCore f_inInfo f_inAcks a_opKind a_opAddress a_opOperand a_opResult a_opPerformed a_acc a_closedCount a_nextVictim a_frameLine a_frameState a_frameTarget a_frameAcks a_frameGranted a_frameWords a_memory a_current a_homeOwner a_homeSharers a_homeNextOwner a_homeNextSharers a_homeBusy a_homeAwaits a_queueHead a_queueLength a_queueType a_queueCore a_queueInfo a_queueWords a_msgType a_msgTo a_msgLine a_msgCore a_msgInfo a_msgAcks a_msgWords a_inWords hX hL hp hN hg e5 e6 e7 e8 hM hQ
  rw [← e1, ← e2, ← e3, ← e4] at this
  exact this
/-- a request is taken up by the home -/
def dm_sv (a b : Nat) : Prop := (a = 4 ∧ b = 11) ∨ (a = 5 ∧ b = 12) ∨ (a = 6 ∧ b = 13) ∨ (7 ≤ a ∧ a ≤ 10 ∧ b = a + 7)
theorem dm_sv_lv {a b : Nat} (h : dm_sv a b) : dm_lv b = dm_lv a ∧ dm_sb b = 0 ∧ dm_sb a = 0 := by
  rcases h with ⟨rfl, rfl⟩ | ⟨rfl, rfl⟩ | ⟨rfl, rfl⟩ | ⟨h1, h2, rfl⟩
  · decide
  · decide
  · decide
  · refine ⟨?_, ?_, ?_⟩
    · rw [dm_lv, dm_lv, if_pos (by omega), if_pos (by omega)]
    · rw [dm_sb, if_neg (by omega)]
    · rw [dm_sb, if_neg (by omega)]
section
variable {fc l c v : Nat} {oc ok oa pf : Nat → Nat} {k : Nat → Nat → Nat} {FL : Nat → Int32}
theorem dm_sv_s8 (hl : l < 8) (h : dm_sv (k l c) v) : dm_s8 (fun x => dm_lv (dm_f2 k l c v x c)) = dm_s8 (fun x => dm_lv (k x c)) ∧ dm_s8 (fun x => dm_sb (dm_f2 k l c v x c)) = dm_s8 (fun x => dm_sb (k x c)) := by
  have q := dm_sv_lv h
  have e1 := dm_s8_g (fun g : Nat → Nat => dm_lv (g c)) (f := k) (v := dm_fu (k l) c v) hl
  have e2 := dm_s8_g (fun g : Nat → Nat => dm_sb (g c)) (f := k) (v := dm_fu (k l) c v) hl
  simp only [dm_fs] at e1 e2
  have e1' : dm_s8 (fun x => dm_lv (dm_f2 k l c v x c)) + dm_lv (k l c) = dm_s8 (fun x => dm_lv (k x c)) + dm_lv v := e1
  have e2' : dm_s8 (fun x => dm_sb (dm_f2 k l c v x c)) + dm_sb (k l c) = dm_s8 (fun x => dm_sb (k x c)) + dm_sb v := e2
  omega
theorem dm_sv_PU (hl : l < 8) (h : dm_sv (k l c) v) (hp : ∀ e, e < 4 → dm_PU fc oc ok oa pf k FL e) : ∀ e, e < 4 → dm_PU fc oc ok oa pf (dm_f2 k l c v) FL e := by
  intro e he
  by_cases g : e = c
  · subst g
    intro h1 h2
    have q := hp e he h1 h2
    obtain ⟨s1, s2⟩ := dm_sv_s8 hl h
    rw [s1, s2]
    by_cases g : oa e / 4 = l
    · rw [g] at q ⊢
      rw [dm_f2v, if_pos ⟨rfl, rfl⟩]
      simp only [dm_sv] at h
      left; omega
    · rw [dm_f2n g]; exact q
  · exact dm_PU_ne g (fun _ _ => rfl) (hp e he)
theorem dm_sv_Psi (hl : l < 8) (h : dm_sv (k l c) v) : dm_s4 (dm_Psi oc ok oa pf (dm_f2 k l c v)) = dm_s4 (dm_Psi oc ok oa pf k) := by
  refine dm_s4_ext fun e he => ?_
  by_cases g : e = c
  · subst g
    obtain ⟨s1, s2⟩ := dm_sv_s8 hl h
    rw [dm_Psi, dm_Psi, s1]
    by_cases g : oa e / 4 = l
    · rw [g, dm_f2v, if_pos ⟨rfl, rfl⟩]
      simp only [dm_psi]
      rcases h with ⟨h1, h2⟩ | ⟨h1, h2⟩ | ⟨h1, h2⟩ | ⟨h1, h2, h3⟩
      · rw [h1, h2]; simp
      · rw [h1, h2]; simp
      · rw [h1, h2]; simp
      · split
        · rw [if_neg (by omega), if_neg (by omega), if_neg (by omega), if_neg (by omega)]
        · rfl
    · rw [dm_f2n g]
  · exact dm_Psi_ne g
theorem dm_sv_gn {gl : Nat} (h : dm_sv (k l c) v) (hg : ∀ e, e < 4 → dm_gn (k gl e)) : ∀ e, e < 4 → dm_gn (dm_f2 k l c v gl e) := by
  intro e he
  rw [dm_f2v]
  split
  · rename_i y
    have q := hg e he
    rw [y.1, y.2] at q
    have := dm_sv_lv h
    rcases q with q | q
    · rw [q] at h; simp only [dm_sv] at h; omega
    · exact Or.inr (by omega)
  · exact hg e he
end
theorem dm_RP_idle {lc M l r I a : Nat} {k : Nat → Nat → Nat} {V : Nat → Nat → Int32} {R dI dA : Nat → Nat} {n : Nat → Nat → Nat → Nat} {ty to ln co inf ak wds : Nat → Int32} (h : dm_RP lc k V R dI dA n M ty to ln co inf ak wds) (h9 : ∀ t c, 5 ≤ t → t ≤ 10 → c < 4 → n l t c = 0) : dm_RP lc k V (dm_fu R l r) (dm_fu dI l I) (dm_fu dA l a) n M ty to ln co inf ak wds := by
  refine dm_RP_mono h fun l' t' c' hl' ht' hc' hn to co inf ak w hm => ?_
  by_cases e : l' = l
  · subst e
    obtain ⟨q1, q2, q3, q4, q5, q6, q7, q8⟩ := hm
    refine ⟨q1, q2, q3, fun z z2 => ?_, fun z => ?_, fun z => ?_, fun z => ?_, q8⟩
    · have := h9 t' c' z (by omega) hc'; omega
    · have := h9 t' c' (by omega) (by omega) hc'; omega
    · have := h9 t' c' (by omega) (by omega) hc'; omega
    · have := h9 t' c' (by omega) (by omega) hc'; omega
  · simp only [dm_CM, dm_fn e]; exact hm
theorem dm_idle_n {k gr : Nat → Nat} {ac : Nat → Int} {n : Nat → Nat → Nat} {R dI dA cu : Nat} (h : dm_LT k gr ac 0 n R dI dA cu) : ∀ t c, 5 ≤ t → t ≤ 10 → c < 4 → n t c = 0 := by
  intro t c h1 h2 hc
  have q := dm_idle h c hc
  have : t = 5 ∨ t = 6 ∨ t = 7 ∨ t = 8 ∨ t = 9 ∨ t = 10 := by omega
  rcases this with e | e | e | e | e | e <;> subst e <;> omega
theorem dm_idle_s {k gr : Nat → Nat} {ac : Nat → Int} {n : Nat → Nat → Nat} {R dI dA cu : Nat} (h : dm_LT k gr ac 0 n R dI dA cu) : dm_s4 (n 4) = 0 ∧ dm_s4 (n 9) = 0 := by
  have := dm_T_idle h
  omega
theorem dm_dt_ow (x : Nat) : dm_dt x ≤ dm_ow x := by
  rw [dm_dt, dm_ow]; split <;> split <;> omega
theorem dm_ro2 (x : Nat) : dm_ro x ≤ 2 := by
  have h1 : ¬ (dm_sh x = 1 ∧ dm_ow x = 1) := by simp only [dm_sh, dm_ow]; split <;> split <;> omega
  have h2 : dm_sh x ≤ 1 := by rw [dm_sh]; split <;> omega
  have h3 : dm_ow x ≤ 1 := by rw [dm_ow]; split <;> omega
  rw [dm_ro]; omega
theorem dm_d_i {n : Nat → Nat → Nat} {t c : Nat} : dm_d (dm_i n t c) t c = n := by
  funext a b
  rw [dm_dv, dm_iv]
  omega
end
section
theorem dm_RF_sv {cc lc fc l c v : Nat} {k gr fr : Nat → Nat → Nat} {ac : Nat → Nat → Int} {V : Nat → Nat → Int32} {FL FS FT FA FG FW : Nat → Int32} (h : dm_RF cc lc fc k gr ac fr V FL FS FT FA FG FW) (hlc : lc ≤ 8) (hfc : fc ≤ 4) (hs : dm_sv (k l c) v) : dm_RF cc lc fc (dm_f2 k l c v) gr ac fr V FL FS FT FA FG FW := by
  have hk0 : k l c ≠ 0 := by simp only [dm_sv] at hs; omega
  obtain ⟨h1, h2, h3, h4, h5, h6, h7⟩ := dm_RF_at h hk0
  have est : dm_st v = dm_st (k l c) := by
    rcases hs with ⟨a, b⟩ | ⟨a, b⟩ | ⟨a, b⟩ | ⟨a, b, e⟩
    · rw [a, b]; rfl
    · rw [a, b]; rfl
    · rw [a, b]; rfl
    · rw [e, dm_st, dm_st, if_neg (by omega), if_pos (by omega)]; omega
  have ero : dm_ro v ≠ 0 → dm_ro (k l c) ≠ 0 := by
    rcases hs with ⟨a, b⟩ | ⟨a, b⟩ | ⟨a, b⟩ | ⟨a, b, e⟩
    · rw [a, b]; exact id
    · rw [a, b]; exact id
    · rw [a, b]; exact id
    · intro z
      refine absurd ?_ z
      rw [e, dm_ro, dm_sh, dm_ow, if_neg (by omega), if_neg (by omega)]
  have := dm_RF_set (v := v) (g := gr l c) (a := ac l c) (FS' := FS) (FT' := FT) (FA' := FA) (FG' := FG) (FW' := FW) h hlc hfc hk0 (by simp only [dm_sv] at hs; omega) ⟨h2, by rw [est]; exact h3, h4, h5, h6, fun z i hi => h7 (z.imp ero id) i hi⟩ (fun j hj => ⟨rfl, rfl, rfl, rfl, fun _ _ => rfl⟩)
  rw [dm_f2self, dm_f2self] at this
  exact this
theorem dm_Phi_nq {l : Nat} {n nq : Nat → Nat → Nat → Nat} {gr : Nat → Nat → Nat} {N' Q' : Nat → Nat → Nat} (hl : l < 8) (h : dm_phi N' Q' (gr l) ≤ dm_phi (n l) (nq l) (gr l)) : dm_Phi (dm_fu n l N') (dm_fu nq l Q') gr ≤ dm_Phi n nq gr := by
  have q := dm_Phi_set (n := n) (nq := nq) (gr := gr) (N := N') (Q := Q') (G := gr l) hl
  rw [dm_fself] at q
  omega
section
variable {cc lc fc : Nat} {oc ok oa cu : Nat → Nat} {val y_acc y_opn y_fin y_cur : Nat → Int32} {gl N : Nat} {k gr fr d nd : Nat → Nat → Nat} {ac : Nat → Nat → Int} {aw R dI dA pf : Nat → Nat} {n nq : Nat → Nat → Nat → Nat} {V : Nat → Nat → Int32} {M MB QB c l : Nat} {f_msgGetS f_msgGetM f_msgPut f_msgDone f_msgCopyBack f_msgFwdS f_msgFwdM f_msgInv f_msgAck f_msgData f_msgGrant f_msgPutAck f_stFree f_stS f_stE f_stM f_stIS f_stIM f_stSM f_stSI f_stEI f_stMI f_stII f_coreCount f_lineCount f_frameCount f_msgCount f_inType f_inTo f_inLine f_inCore f_inInfo f_inAcks : Int32} {a_opKind a_opAddress a_opOperand a_opResult a_opPerformed a_acc a_closedCount a_nextVictim a_frameLine a_frameState a_frameTarget a_frameAcks a_frameGranted a_frameWords a_memory a_current a_homeOwner a_homeSharers a_homeNextOwner a_homeNextSharers a_homeBusy a_homeAwaits a_queueHead a_queueLength a_queueType a_queueCore a_queueInfo a_queueWords a_msgType a_msgTo a_msgLine a_msgCore a_msgInfo a_msgAcks a_msgWords a_inWords : Nat → Int32} {post : SX → Prop}
/-- the state behind a served request -/
theorem dm_IH_of {v a r I A : Nat} {D ND : Nat → Nat} {N' Q' : Nat → Nat → Nat} {m1 m2 m3 m4 m5 m6 m7 m8 m9 m10 m11 m12 m13 m14 : Nat → Int32} {M' : Nat}
    (hX : dm_X cc lc fc (dm_f2 k l c v) gr ac fr (dm_fu d l D) (dm_fu nd l ND) (dm_fu aw l a) (dm_fu n l N') (dm_fu nq l Q') (dm_fu R l r) (dm_fu dI l I) (dm_fu dA l A) V oc ok oa pf cu val M' a_opKind a_opAddress a_opOperand a_opResult a_opPerformed a_acc a_nextVictim a_frameLine a_frameState a_frameTarget a_frameAcks a_frameGranted a_frameWords m1 a_current m2 m3 m4 m5 m6 m7 a_queueHead a_queueLength a_queueType a_queueCore a_queueInfo a_queueWords m8 m9 m10 m11 m12 m13 m14)
    (hL : dm_LQ l k gr ac d nd aw n nq R dI dA cu) (hL' : dm_L0 (dm_fu (k l) c v) (gr l) (ac l) D ND a N' Q' r I A (cu l)) (hl8 : l < 8) (hsv : dm_sv (k l c) v) (hphi : dm_phi N' Q' (gr l) ≤ dm_phi (n l) (nq l) (gr l)) (hp : ∀ e, e < 4 → dm_PU fc oc ok oa pf k a_frameLine e) (hN : dm_Phi n nq gr + dm_s4 (dm_Psi oc ok oa pf k) ≤ N) (hgn : ∀ e, e < 4 → dm_gn (k gl e)) (e1 : a_acc = y_acc) (e2 : a_opOperand = y_opn) (e3 : a_closedCount = y_fin) (e4 : a_current = y_cur) (hM : M' ≤ MB + 4) (hQB : dm_NQ Q' ≤ QB) :
    dm_IH cc lc fc oc ok oa cu val y_acc y_opn y_fin y_cur gl N l (MB + 4) QB (f_msgGetS, f_msgGetM, f_msgPut, f_msgDone, f_msgCopyBack, f_msgFwdS, f_msgFwdM, f_msgInv, f_msgAck, f_msgData, f_msgGrant, f_msgPutAck, f_stFree, f_stS, f_stE, f_stM, f_stIS, f_stIM, f_stSM, f_stSI, f_stEI, f_stMI, f_stII, nI cc, nI lc, nI fc, nI M', f_inType, f_inTo, f_inLine, f_inCore, f_inInfo, f_inAcks, a_opKind, a_opAddress, a_opOperand, a_opResult, a_opPerformed, a_acc, a_closedCount, a_nextVictim, a_frameLine, a_frameState, a_frameTarget, a_frameAcks, a_frameGranted, a_frameWords, m1, a_current, m2, m3, m4, m5, m6, m7, a_queueHead, a_queueLength, a_queueType, a_queueCore, a_queueInfo, a_queueWords, m8, m9, m10, m11, m12, m13, m14, a_inWords) := by
  have hL2 := dm_LQ_set (l := l) hL hL'
  simp only [dm_fself] at hL2
  refine dm_IH_mk hX hL2 (dm_sv_PU hl8 hsv hp) ?_ (dm_sv_gn hsv hgn) e1 e2 e3 e4 hM (by rw [dm_fs]; exact hQB)
  have q1 := dm_Phi_nq (n := n) (nq := nq) (gr := gr) hl8 hphi
  have q2 := dm_sv_Psi (oc := oc) (ok := ok) (oa := oa) (pf := pf) hl8 hsv
  rw [q2]; omega
/-- GetS -/
theorem dm_h_read {Qm : Nat → Nat → Nat} (K : ∀ u', dm_IH cc lc fc oc ok oa cu val y_acc y_opn y_fin y_cur gl N l (MB + 4) QB u' → post u') (hX : dm_X cc lc fc k gr ac fr d nd aw n (dm_fu nq l Qm) R dI dA V oc ok oa pf cu val M a_opKind a_opAddress a_opOperand a_opResult a_opPerformed a_acc a_nextVictim a_frameLine a_frameState a_frameTarget a_frameAcks a_frameGranted a_frameWords a_memory a_current a_homeOwner a_homeSharers a_homeNextOwner a_homeNextSharers a_homeBusy a_homeAwaits a_queueHead a_queueLength a_queueType a_queueCore a_queueInfo a_queueWords a_msgType a_msgTo a_msgLine a_msgCore a_msgInfo a_msgAcks a_msgWords) (hL : dm_LQ l k gr ac d nd aw n nq R dI dA cu) (hl : l < lc) (hc : c < 4) (hw : aw l = 0) (hp : ∀ e, e < 4 → dm_PU fc oc ok oa pf k a_frameLine e) (hN : dm_Phi n nq gr + dm_s4 (dm_Psi oc ok oa pf k) ≤ N) (hgn : ∀ e, e < 4 → dm_gn (k gl e)) (e1 : a_acc = y_acc) (e2 : a_opOperand = y_opn) (e3 : a_closedCount = y_fin) (e4 : a_current = y_cur) (hMB : M ≤ MB) (hB : MB + 4 ≤ 127) (hQB : dm_NQ (nq l) ≤ QB + 1) (eQ : Qm = dm_d (nq l) 0 c) (hn : 1 ≤ nq l 0 c) : wpX_serveRead post (f_msgGetS, f_msgGetM, f_msgPut, f_msgDone, f_msgCopyBack, f_msgFwdS, f_msgFwdM, f_msgInv, f_msgAck, f_msgData, f_msgGrant, f_msgPutAck, f_stFree, f_stS, f_stE, f_stM, f_stIS, f_stIM, f_stSM, f_stSI, f_stEI, f_stMI, f_stII, nI cc, nI lc, nI fc, nI M, f_inType, f_inTo, f_inLine, f_inCore, f_inInfo, f_inAcks, a_opKind, a_opAddress, a_opOperand, a_opResult, a_opPerformed, a_acc, a_closedCount, a_nextVictim, a_frameLine, a_frameState, a_frameTarget, a_frameAcks, a_frameGranted, a_frameWords, a_memory, a_current, a_homeOwner, a_homeSharers, a_homeNextOwner, a_homeNextSharers, a_homeBusy, a_homeAwaits, a_queueHead, a_queueLength, a_queueType, a_queueCore, a_queueInfo, a_queueWords, a_msgType, a_msgTo, a_msgLine, a_msgCore, a_msgInfo, a_msgAcks, a_msgWords, a_inWords) (nI l) (nI c) := by
  subst eQ
  obtain ⟨hZ, hF, hH, hM, hQ, hP, hO, hV, hC, hNv⟩ := hX
  have hl8 : l < 8 := by omega
  have hl0 := (hL l hl8).1
  obtain ⟨u1, u2, u3, u4, u5, u6⟩ := hH l hl
  have hA := hl0.1 c hc
  have hk : k l c = 4 := dm_w0_k (x := k l c) (by have := hA.2.1; omega)
  have hsv : dm_sv (k l c) 11 := Or.inl ⟨hk, rfl⟩
  have hT0 := hl0.2.1
  rw [hw] at hT0
  have hid := dm_idle_n hT0
  have hs := dm_idle_s hT0
  have hdr : ∀ o, o < 4 → d l o = dm_ro (k l o) := fun o ho => (hl0.2.2 o ho).1 hw
  have hNQ := dm_NQ_d (nq := nq l) (t := 0) (by omega) hc hn
  have mcI : ∀ N' : Nat → Nat → Nat, N' 4 = n l 4 → ∀ I, dm_mc (dm_fu (k l) c 11) N' I (cu l) → dm_mc (k l) (n l) (dI l) (cu l) := fun N' e4 I g => by
    refine dm_mc_mono (by rw [e4]; omega) (fun _ => Or.inl hs.2) ?_ g
    have e := dm_s4_g dm_dt (f := k l) (c := c) (v := 11) hc
    have : dm_dt (k l c) = 0 := by rw [hk]; rfl
    omega
  have hF' := dm_RF_sv hF hZ.2.2.2.1 hZ.2.2.2.2.2 hsv
  have hQ' := dm_RQ_k (l := l) (c := c) (v := 11) hQ (Or.inl ⟨by omega, by omega⟩)
  have hP0 : ∀ r I a, dm_RP lc (dm_f2 k l c 11) V (dm_fu R l r) (dm_fu dI l I) (dm_fu dA l a) n M a_msgType a_msgTo a_msgLine a_msgCore a_msgInfo a_msgAcks a_msgWords := fun r I a => dm_RP_idle (dm_RP_k hP (Or.inl ⟨by omega, by omega⟩)) hid
  by_cases hown : a_homeOwner l < 0
  · have hno := dm_DO_no u1 hown
    have hcl : ∀ i, i < 4 → a_memory (4 * l + i) = V l i := by
      refine hM l hl (Or.inl ⟨hs.1, Or.inl hs.2, ?_⟩)
      have z : ∀ e, e < 4 → dm_dt (k l e) = 0 := fun e he => by
        have h1 := dm_dt_ow (k l e)
        have h2 := (dm_ro_le (x := k l e) (by have := hdr e he; have := hno e he; omega)).1
        omega
      simp only [dm_s4]; rw [z 0 (by omega), z 1 (by omega), z 2 (by omega), z 3 (by omega)]
    by_cases hsh : a_homeSharers l = 0
    · have hn1 := (dm_DS_zero u2).mp hsh
      have hd0 : ∀ o, o < 4 → d l o = 0 := fun o ho => by
        have h1 := hno o ho
        have h2 := hn1 o ho
        have h3 := dm_ro2 (k l o)
        have := hdr o ho
        omega
      have hLn := dm_t_srE hl0 hc hn hw hd0
      have hph := dm_p_srE hl0 hc hn hw hd0
      have hP1 := hP0 c 2 0
      rw [← dm_fself (f := n) (i := l)] at hP1
      have hP2 := dm_RP_post (t := 9) (c := c) (p1 := nI c) (p3 := nI c) (p4 := 2) (p5 := 0) (wds' := dm_cp a_msgWords (4 * M) a_memory (4 * l) 4) hP1 hZ.2.2.2.1 hl (by omega) hc
        ⟨fun z => absurd z (by decide), fun z => absurd z (by decide), fun z => absurd z (by decide), fun _ z => absurd z (by decide), fun z => absurd z (by decide), fun _ => ⟨rfl, by rw [dm_fs]; rfl, by rw [dm_fs]; rfl, fun i hi => (dm_cpi hi).trans (hcl i hi)⟩, fun z => absurd z (by decide), fun z => absurd z (by decide)⟩ (fun x hx => dm_cpo (by omega))
      have hH' := dm_RH_set (l := l) (a := 1) (D := d l) (ND := fun x => if x = c then 2 else 0) (own' := a_homeOwner) (sh' := a_homeSharers) (nown' := upd a_homeNextOwner l (nI c)) (nsh' := upd a_homeNextSharers l 0) (bu' := upd a_homeBusy l 1) (aws' := upd a_homeAwaits l 1) hH u1 u2
        (by rw [pk_us]; exact Or.inr ⟨c, hc, rfl, if_pos rfl, fun e he hne => by dsimp only; rw [if_neg hne]; decide⟩) (by rw [pk_us]; exact dm_DS_0 (fun e he => by split <;> decide)) (by rw [pk_us]; rfl) (by rw [pk_us]; rfl)
        (fun j hj => ⟨rfl, rfl, pk_un hj, pk_un hj, pk_un hj, pk_un hj⟩)
      have hM' := dm_RM_set (l := l) (K := dm_fu (k l) c 11) (N := dm_i (n l) 9 c) (I := 2) (mem' := a_memory) hM (fun g => hM l hl (mcI _ (dm_in (by decide)) 2 g)) (fun _ _ => rfl)
      exact dm_w_srE hl8 (by omega) hown hsh (K _ (dm_IH_of (v := 11) ⟨hZ, hF', hH', hM', hQ', hP2, hO, hV, hC, hNv⟩ hL hLn hl8 hsv (by omega) hp hN hgn e1 e2 e3 e4 (by omega) (by omega)))
    · have hLn := dm_t_srS hl0 hc hn hw hno
      have hph := dm_p_srS hl0 hc hn hw hno
      have hP1 := hP0 c 1 0
      rw [← dm_fself (f := n) (i := l)] at hP1
      have hP2 := dm_RP_post (t := 9) (c := c) (p1 := nI c) (p3 := nI c) (p4 := 1) (p5 := 0) (wds' := dm_cp a_msgWords (4 * M) a_memory (4 * l) 4) hP1 hZ.2.2.2.1 hl (by omega) hc
        ⟨fun z => absurd z (by decide), fun z => absurd z (by decide), fun z => absurd z (by decide), fun _ z => absurd z (by decide), fun z => absurd z (by decide), fun _ => ⟨rfl, by rw [dm_fs]; rfl, by rw [dm_fs]; rfl, fun i hi => (dm_cpi hi).trans (hcl i hi)⟩, fun z => absurd z (by decide), fun z => absurd z (by decide)⟩ (fun x hx => dm_cpo (by omega))
      have hH' := dm_RH_set (l := l) (a := 1) (D := d l) (ND := dm_fu (d l) c 1) (own' := a_homeOwner) (sh' := a_homeSharers) (nown' := upd a_homeNextOwner l (-1)) (nsh' := upd a_homeNextSharers l (a_homeSharers l ||| ((1 : Int32) <<< (nI c &&& 31)))) (bu' := upd a_homeBusy l 1) (aws' := upd a_homeAwaits l 1) hH u1 u2
        (by rw [pk_us]; exact Or.inl ⟨rfl, fun e he => by
              by_cases g : e = c
              · subst g; rw [dm_fs]; decide
              · rw [dm_fn g]; exact hno e he⟩)
        (by rw [pk_us]; exact dm_DS_or u2 hc (fun e he => by
              by_cases g : e = c
              · subst g; rw [dm_fs]; exact ⟨fun _ => Or.inr rfl, fun _ => rfl⟩
              · rw [dm_fn g]; exact ⟨fun z => Or.inl z, fun z => z.resolve_right g⟩)) (by rw [pk_us]; rfl) (by rw [pk_us]; rfl)
        (fun j hj => ⟨rfl, rfl, pk_un hj, pk_un hj, pk_un hj, pk_un hj⟩)
      have hM' := dm_RM_set (l := l) (K := dm_fu (k l) c 11) (N := dm_i (n l) 9 c) (I := 1) (mem' := a_memory) hM (fun g => hM l hl (mcI _ (dm_in (by decide)) 1 g)) (fun _ _ => rfl)
      exact dm_w_srS hl8 (by omega) hown hsh (K _ (dm_IH_of (v := 11) ⟨hZ, hF', hH', hM', hQ', hP2, hO, hV, hC, hNv⟩ hL hLn hl8 hsv (by omega) hp hN hgn e1 e2 e3 e4 (by omega) (by omega)))
  · obtain ⟨o, ho4, eo, hdo, hoth⟩ := dm_DO_own u1 hown
    have hLn := dm_t_srO hl0 hc ho4 hn hw hdo
    have hph := dm_p_srO hl0 hc ho4 hn hw hdo
    have hP1 := hP0 c 1 (dA l)
    rw [← dm_fself (f := n) (i := l)] at hP1
    have hP2 := dm_RP_post (t := 5) (c := o) (p1 := nI o) (p3 := nI c) (p4 := 0) (p5 := 0) (wds' := a_msgWords) hP1 hZ.2.2.2.1 hl (by omega) ho4
      ⟨fun z => absurd z (by decide), fun z => absurd z (by decide), fun z => absurd z (by decide), fun _ _ => ⟨rfl, by rw [dm_fs]⟩, fun z => absurd z (by decide), fun z => absurd z (by decide), fun z => absurd z (by decide), fun z => absurd z (by decide)⟩ (fun x hx => rfl)
    have hH' := dm_RH_set (l := l) (a := 2) (D := d l) (ND := fun x => if x = c ∨ x = o then 1 else 0) (own' := a_homeOwner) (sh' := a_homeSharers) (nown' := upd a_homeNextOwner l (-1)) (nsh' := upd a_homeNextSharers l (((1 : Int32) <<< (nI c &&& 31)) ||| ((1 : Int32) <<< (nI o &&& 31)))) (bu' := upd a_homeBusy l 1) (aws' := upd (upd a_homeAwaits l 1) l 2) hH u1 u2
      (by rw [pk_us]; exact Or.inl ⟨rfl, fun e he => by dsimp only; split <;> decide⟩)
      (by rw [pk_us]; exact dm_DS_or (dm_DS_one hc) ho4 (fun e he => by
            by_cases g : e = c
            · simp [g]
            · by_cases g2 : e = o
              · simp [g2]
              · simp [g, g2])) (by rw [pk_us]; rfl) (by rw [pk_us]; rfl)
      (fun j hj => ⟨rfl, rfl, pk_un hj, pk_un hj, pk_un hj, by rw [pk_un hj, pk_un hj]⟩)
    have hM' := dm_RM_set (l := l) (K := dm_fu (k l) c 11) (N := dm_i (n l) 5 o) (I := 1) (mem' := a_memory) hM (fun g => hM l hl (mcI _ (dm_in (by decide)) 1 g)) (fun _ _ => rfl)
    exact dm_w_srO hl8 (by omega) eo ho4 (K _ (dm_IH_of (v := 11) ⟨hZ, hF', hH', hM', hQ', hP2, hO, hV, hC, hNv⟩ hL hLn hl8 hsv (by omega) hp hN hgn e1 e2 e3 e4 (by omega) (by omega)))
end
end
section
section
variable {cc lc fc : Nat} {oc ok oa cu : Nat → Nat} {val y_acc y_opn y_fin y_cur : Nat → Int32} {gl N : Nat} {k gr fr d nd : Nat → Nat → Nat} {ac : Nat → Nat → Int} {aw R dI dA pf : Nat → Nat} {n nq : Nat → Nat → Nat → Nat} {V : Nat → Nat → Int32} {M MB QB c l : Nat} {f_msgGetS f_msgGetM f_msgPut f_msgDone f_msgCopyBack f_msgFwdS f_msgFwdM f_msgInv f_msgAck f_msgData f_msgGrant f_msgPutAck f_stFree f_stS f_stE f_stM f_stIS f_stIM f_stSM f_stSI f_stEI f_stMI f_stII f_coreCount f_lineCount f_frameCount f_msgCount f_inType f_inTo f_inLine f_inCore f_inInfo f_inAcks : Int32} {a_opKind a_opAddress a_opOperand a_opResult a_opPerformed a_acc a_closedCount a_nextVictim a_frameLine a_frameState a_frameTarget a_frameAcks a_frameGranted a_frameWords a_memory a_current a_homeOwner a_homeSharers a_homeNextOwner a_homeNextSharers a_homeBusy a_homeAwaits a_queueHead a_queueLength a_queueType a_queueCore a_queueInfo a_queueWords a_msgType a_msgTo a_msgLine a_msgCore a_msgInfo a_msgAcks a_msgWords a_inWords : Nat → Int32} {post : SX → Prop}
/-- the invalidations and the permission -/
theorem dm_sw66 {D : Nat → Nat} {s : Int32} {k' : Nat → Nat → Nat} {R' dI' dA' : Nat → Nat} (hcc : cc ≤ 4) (hlc : lc ≤ 8) (hl : l < lc) (hc : c < 4) (hD : dm_DS D s) (hRl : R' l = c) (hdI : dI' l = 2) (hdA : dA' l = dm_oth c D cc) (hcl : ∀ i, i < 4 → a_memory (4 * l + i) = V l i)
    (KD : D c ≠ 1 → ∀ (M : Nat) (w1 w2 w3 w4 w5 w6 w7 : Nat → Int32), M ≤ MB + 4 → dm_RP lc k' V R' dI' dA' (dm_fu n l (dm_i (dm_iv7 (n l) c D cc) 9 c)) M w1 w2 w3 w4 w5 w6 w7 → post (f_msgGetS, f_msgGetM, f_msgPut, f_msgDone, f_msgCopyBack, f_msgFwdS, f_msgFwdM, f_msgInv, f_msgAck, f_msgData, f_msgGrant, f_msgPutAck, f_stFree, f_stS, f_stE, f_stM, f_stIS, f_stIM, f_stSM, f_stSI, f_stEI, f_stMI, f_stII, nI cc, nI lc, nI fc, nI M, f_inType, f_inTo, f_inLine, f_inCore, f_inInfo, f_inAcks, a_opKind, a_opAddress, a_opOperand, a_opResult, a_opPerformed, a_acc, a_closedCount, a_nextVictim, a_frameLine, a_frameState, a_frameTarget, a_frameAcks, a_frameGranted, a_frameWords, a_memory, a_current, a_homeOwner, a_homeSharers, a_homeNextOwner, a_homeNextSharers, a_homeBusy, a_homeAwaits, a_queueHead, a_queueLength, a_queueType, a_queueCore, a_queueInfo, a_queueWords, w1, w2, w3, w4, w5, w6, w7, a_inWords))
    (KG : D c = 1 → ∀ (M : Nat) (w1 w2 w3 w4 w5 w6 w7 : Nat → Int32), M ≤ MB + 4 → dm_RP lc k' V R' dI' dA' (dm_fu n l (dm_i (dm_iv7 (n l) c D cc) 10 c)) M w1 w2 w3 w4 w5 w6 w7 → post (f_msgGetS, f_msgGetM, f_msgPut, f_msgDone, f_msgCopyBack, f_msgFwdS, f_msgFwdM, f_msgInv, f_msgAck, f_msgData, f_msgGrant, f_msgPutAck, f_stFree, f_stS, f_stE, f_stM, f_stIS, f_stIM, f_stSM, f_stSI, f_stEI, f_stMI, f_stII, nI cc, nI lc, nI fc, nI M, f_inType, f_inTo, f_inLine, f_inCore, f_inInfo, f_inAcks, a_opKind, a_opAddress, a_opOperand, a_opResult, a_opPerformed, a_acc, a_closedCount, a_nextVictim, a_frameLine, a_frameState, a_frameTarget, a_frameAcks, a_frameGranted, a_frameWords, a_memory, a_current, a_homeOwner, a_homeSharers, a_homeNextOwner, a_homeNextSharers, a_homeBusy, a_homeAwaits, a_queueHead, a_queueLength, a_queueType, a_queueCore, a_queueInfo, a_queueWords, w1, w2, w3, w4, w5, w6, w7, a_inWords)) (hB : MB + 4 ≤ 127) :
    ∀ m j, j + m = cc → ∀ (M : Nat) (w1 w2 w3 w4 w5 w6 w7 : Nat → Int32), M ≤ MB + dm_oth c D j → dm_RP lc k' V R' dI' dA' (dm_fu n l (dm_iv7 (n l) c D j)) M w1 w2 w3 w4 w5 w6 w7 → wX_serveWrite_66 post (nI l) (nI c) s (m + 1) (nI (dm_oth c D j)) (nI j) f_msgGetS f_msgGetM f_msgPut f_msgDone f_msgCopyBack f_msgFwdS f_msgFwdM f_msgInv f_msgAck f_msgData f_msgGrant f_msgPutAck f_stFree f_stS f_stE f_stM f_stIS f_stIM f_stSM f_stSI f_stEI f_stMI f_stII (nI cc) (nI lc) (nI fc) (nI M) f_inType f_inTo f_inLine f_inCore f_inInfo f_inAcks a_opKind a_opAddress a_opOperand a_opResult a_opPerformed a_acc a_closedCount a_nextVictim a_frameLine a_frameState a_frameTarget a_frameAcks a_frameGranted a_frameWords a_memory a_current a_homeOwner a_homeSharers a_homeNextOwner a_homeNextSharers a_homeBusy a_homeAwaits a_queueHead a_queueLength a_queueType a_queueCore a_queueInfo a_queueWords w1 w2 w3 w4 w5 w6 w7 a_inWords := by
  have hot : ∀ j, j ≤ 4 → dm_oth c D j ≤ 3 := fun j hj => by
    have h4 := dm_oth3 (d := D) hc
    have mono : ∀ a b, dm_oth c D a ≤ dm_oth c D (a + b) := fun a b => by
      induction b with
      | zero => exact Nat.le_refl _
      | succ b ih => exact Nat.le_trans ih (Nat.le_add_right _ _)
    have := mono j (4 - j)
    rw [show j + (4 - j) = 4 from by omega] at this
    omega
  intro m
  induction m with
  | zero =>
    intro j hj M w1 w2 w3 w4 w5 w6 w7 hM hP
    obtain rfl : j = cc := by omega
    have h3 := hot j hcc
    refine br_t (nI_le (Nat.le_refl _) (by omega)) (br_c (fun h => ?_) (fun h => ?_))
    · have hb := (dm_DS_bit hD hc).mp h
      refine dm_w_post _ _ _ _ _ _ (by omega) (dm_w_attM (by omega) (by omega) (KD hb (M + 1) _ _ _ _ _ _ _ (by omega) (dm_RP_post (t := 9) (c := c) hP hlc hl (by omega) hc ?_ (fun x hx => dm_cpo (by omega)))))
      exact ⟨fun z => absurd z (by decide), fun z => absurd z (by decide), fun z => absurd z (by decide), fun _ z => absurd z (by decide), fun z => absurd z (by decide), fun _ => ⟨rfl, by rw [hdI]; rfl, by rw [hdA], fun i hi => (dm_cpi hi).trans (hcl i hi)⟩, fun z => absurd z (by decide), fun z => absurd z (by decide)⟩
    · have hb : D c = 1 := Classical.byContradiction fun z => h ((dm_DS_bit hD hc).mpr z)
      refine dm_w_post _ _ _ _ _ _ (by omega) (KG hb (M + 1) _ _ _ _ _ _ _ (by omega) (dm_RP_post (t := 10) (c := c) hP hlc hl (by omega) hc ?_ (fun x hx => rfl)))
      exact ⟨fun z => absurd z (by decide), fun z => absurd z (by decide), fun z => absurd z (by decide), fun _ z => absurd z (by decide), fun z => absurd z (by decide), fun z => absurd z (by decide), fun _ => ⟨rfl, rfl, by rw [hdA]⟩, fun z => absurd z (by decide)⟩
  | succ m ih =>
    intro j hj M w1 w2 w3 w4 w5 w6 w7 hM hP
    have h3 := hot j (by omega)
    have skip : ¬ (j ≠ c ∧ D j = 1) → wX_serveWrite_66 post (nI l) (nI c) s (m + 1) (nI (dm_oth c D j)) (nI (j + 1)) f_msgGetS f_msgGetM f_msgPut f_msgDone f_msgCopyBack f_msgFwdS f_msgFwdM f_msgInv f_msgAck f_msgData f_msgGrant f_msgPutAck f_stFree f_stS f_stE f_stM f_stIS f_stIM f_stSM f_stSI f_stEI f_stMI f_stII (nI cc) (nI lc) (nI fc) (nI M) f_inType f_inTo f_inLine f_inCore f_inInfo f_inAcks a_opKind a_opAddress a_opOperand a_opResult a_opPerformed a_acc a_closedCount a_nextVictim a_frameLine a_frameState a_frameTarget a_frameAcks a_frameGranted a_frameWords a_memory a_current a_homeOwner a_homeSharers a_homeNextOwner a_homeNextSharers a_homeBusy a_homeAwaits a_queueHead a_queueLength a_queueType a_queueCore a_queueInfo a_queueWords w1 w2 w3 w4 w5 w6 w7 a_inWords := fun h => by
      have eo : dm_oth c D (j + 1) = dm_oth c D j := by
        show dm_oth c D j + _ = _
        rw [if_neg h, Nat.add_zero]
      have q := ih (j + 1) (by omega) M w1 w2 w3 w4 w5 w6 w7 (by rw [eo]; exact hM) (by rw [dm_iv7_k h]; exact hP)
      rw [eo] at q
      exact q
    refine br_f (nI_ge (by omega) (by omega)) (pk_eq j c (fun h => nm_r (nI_1 j) (skip (fun z => z.1 h))) (fun h => br_c (fun g => nm_r (nI_1 j) (skip (fun z => (dm_DS_bit hD (by omega)).mp g z.2))) (fun g => nm_r (nI_1 _) ?_)))
    have hb : D j = 1 := Classical.byContradiction fun z => g ((dm_DS_bit hD (by omega)).mpr z)
    have eo : dm_oth c D (j + 1) = dm_oth c D j + 1 := by
      show dm_oth c D j + _ = _
      rw [if_pos ⟨h, hb⟩]
    refine dm_w_post _ _ _ _ _ _ (by omega) (nm_r (nI_1 j) ?_)
    have q := ih (j + 1) (by omega) (M + 1) _ _ _ _ _ _ w7 (by omega) (by rw [dm_iv7_s ⟨h, hb⟩]; exact dm_RP_post (t := 7) (c := j) (p1 := nI j) (p3 := nI c) (p4 := 0) (p5 := 0) hP hlc hl (by omega) (by omega) ⟨fun z => absurd z (by decide), fun z => absurd z (by decide), fun z => absurd z (by decide), fun _ _ => ⟨rfl, by rw [hRl]⟩, fun z => absurd z (by decide), fun z => absurd z (by decide), fun z => absurd z (by decide), fun z => absurd z (by decide)⟩ (fun x hx => rfl))
    rw [eo] at q
    exact q
/-- GetM -/
theorem dm_h_write {Qm : Nat → Nat → Nat} (K : ∀ u', dm_IH cc lc fc oc ok oa cu val y_acc y_opn y_fin y_cur gl N l (MB + 4) QB u' → post u') (hX : dm_X cc lc fc k gr ac fr d nd aw n (dm_fu nq l Qm) R dI dA V oc ok oa pf cu val M a_opKind a_opAddress a_opOperand a_opResult a_opPerformed a_acc a_nextVictim a_frameLine a_frameState a_frameTarget a_frameAcks a_frameGranted a_frameWords a_memory a_current a_homeOwner a_homeSharers a_homeNextOwner a_homeNextSharers a_homeBusy a_homeAwaits a_queueHead a_queueLength a_queueType a_queueCore a_queueInfo a_queueWords a_msgType a_msgTo a_msgLine a_msgCore a_msgInfo a_msgAcks a_msgWords) (hL : dm_LQ l k gr ac d nd aw n nq R dI dA cu) (hl : l < lc) (hc : c < 4) (hw : aw l = 0) (hp : ∀ e, e < 4 → dm_PU fc oc ok oa pf k a_frameLine e) (hN : dm_Phi n nq gr + dm_s4 (dm_Psi oc ok oa pf k) ≤ N) (hgn : ∀ e, e < 4 → dm_gn (k gl e)) (e1 : a_acc = y_acc) (e2 : a_opOperand = y_opn) (e3 : a_closedCount = y_fin) (e4 : a_current = y_cur) (hMB : M ≤ MB) (hB : MB + 4 ≤ 127) (hQB : dm_NQ (nq l) ≤ QB + 1) (eQ : Qm = dm_d (nq l) 1 c) (hn : 1 ≤ nq l 1 c) : wpX_serveWrite post (f_msgGetS, f_msgGetM, f_msgPut, f_msgDone, f_msgCopyBack, f_msgFwdS, f_msgFwdM, f_msgInv, f_msgAck, f_msgData, f_msgGrant, f_msgPutAck, f_stFree, f_stS, f_stE, f_stM, f_stIS, f_stIM, f_stSM, f_stSI, f_stEI, f_stMI, f_stII, nI cc, nI lc, nI fc, nI M, f_inType, f_inTo, f_inLine, f_inCore, f_inInfo, f_inAcks, a_opKind, a_opAddress, a_opOperand, a_opResult, a_opPerformed, a_acc, a_closedCount, a_nextVictim, a_frameLine, a_frameState, a_frameTarget, a_frameAcks, a_frameGranted, a_frameWords, a_memory, a_current, a_homeOwner, a_homeSharers, a_homeNextOwner, a_homeNextSharers, a_homeBusy, a_homeAwaits, a_queueHead, a_queueLength, a_queueType, a_queueCore, a_queueInfo, a_queueWords, a_msgType, a_msgTo, a_msgLine, a_msgCore, a_msgInfo, a_msgAcks, a_msgWords, a_inWords) (nI l) (nI c) := by
  subst eQ
  obtain ⟨hZ, hF, hH, hM, hQ, hP, hO, hV, hC, hNv⟩ := hX
  have hl8 : l < 8 := by omega
  have hl0 := (hL l hl8).1
  obtain ⟨u1, u2, u3, u4, u5, u6⟩ := hH l hl
  have hA := hl0.1 c hc
  have hk := dm_w1_k (x := k l c) (by have := hA.2.2.1; omega)
  have hT0 := hl0.2.1
  rw [hw] at hT0
  have hid := dm_idle_n hT0
  have hs := dm_idle_s hT0
  have hdr : ∀ o, o < 4 → d l o = dm_ro (k l o) := fun o ho => (hl0.2.2 o ho).1 hw
  have hNQ := dm_NQ_d (nq := nq l) (t := 1) (by omega) hc hn
  have mcI : ∀ (v : Nat) (N' : Nat → Nat → Nat), N' 4 = n l 4 → ∀ I, dm_mc (dm_fu (k l) c v) N' I (cu l) → dm_mc (k l) (n l) (dI l) (cu l) := fun v N' e4 I g => by
    refine dm_mc_mono (by rw [e4]; omega) (fun _ => Or.inl hs.2) ?_ g
    have e := dm_s4_g dm_dt (f := k l) (c := c) (v := v) hc
    have : dm_dt (k l c) = 0 := by rcases hk with h | h <;> rw [h] <;> rfl
    omega
  by_cases hown : a_homeOwner l < 0
  · have hno := dm_DO_no u1 hown
    have hcl : ∀ i, i < 4 → a_memory (4 * l + i) = V l i := by
      refine hM l hl (Or.inl ⟨hs.1, Or.inl hs.2, ?_⟩)
      have z : ∀ e, e < 4 → dm_dt (k l e) = 0 := fun e he => by
        have h1 := dm_dt_ow (k l e)
        have h2 := (dm_ro_le (x := k l e) (by have := hdr e he; have := hno e he; omega)).1
        omega
      simp only [dm_s4]; rw [z 0 (by omega), z 1 (by omega), z 2 (by omega), z 3 (by omega)]
    have hz7 : ∀ x, cc ≤ x → x < cc + (4 - cc) → ¬ d l x = 1 := fun x h1 h2 z => by
      have e := hdr x (by omega)
      rw [hF.1 l x (by omega)] at e
      have : dm_ro 0 = 0 := rfl
      omega
    have h4c := dm_iv7_c (n := n l) (c := c) (d := d l) hz7
    rw [show cc + (4 - cc) = 4 from by omega] at h4c
    have hH' := dm_RH_set (l := l) (a := 1) (D := d l) (ND := fun x => if x = c then 2 else 0) (own' := a_homeOwner) (sh' := a_homeSharers) (nown' := upd a_homeNextOwner l (nI c)) (nsh' := upd a_homeNextSharers l 0) (bu' := upd a_homeBusy l 1) (aws' := upd a_homeAwaits l 1) hH u1 u2
      (by rw [pk_us]; exact Or.inr ⟨c, hc, rfl, if_pos rfl, fun e he hne => by dsimp only; rw [if_neg hne]; decide⟩) (by rw [pk_us]; exact dm_DS_0 (fun e he => by split <;> decide)) (by rw [pk_us]; rfl) (by rw [pk_us]; rfl)
      (fun j hj => ⟨rfl, rfl, pk_un hj, pk_un hj, pk_un hj, pk_un hj⟩)
    have go : ∀ v, (v = 12 ∧ k l c = 5) ∨ (v = 13 ∧ k l c = 6) → wpX_serveWrite post (f_msgGetS, f_msgGetM, f_msgPut, f_msgDone, f_msgCopyBack, f_msgFwdS, f_msgFwdM, f_msgInv, f_msgAck, f_msgData, f_msgGrant, f_msgPutAck, f_stFree, f_stS, f_stE, f_stM, f_stIS, f_stIM, f_stSM, f_stSI, f_stEI, f_stMI, f_stII, nI cc, nI lc, nI fc, nI M, f_inType, f_inTo, f_inLine, f_inCore, f_inInfo, f_inAcks, a_opKind, a_opAddress, a_opOperand, a_opResult, a_opPerformed, a_acc, a_closedCount, a_nextVictim, a_frameLine, a_frameState, a_frameTarget, a_frameAcks, a_frameGranted, a_frameWords, a_memory, a_current, a_homeOwner, a_homeSharers, a_homeNextOwner, a_homeNextSharers, a_homeBusy, a_homeAwaits, a_queueHead, a_queueLength, a_queueType, a_queueCore, a_queueInfo, a_queueWords, a_msgType, a_msgTo, a_msgLine, a_msgCore, a_msgInfo, a_msgAcks, a_msgWords, a_inWords) (nI l) (nI c) := fun v hv => by
      have hsv : dm_sv (k l c) v := by simp only [dm_sv]; omega
      have hF' := dm_RF_sv hF hZ.2.2.2.1 hZ.2.2.2.2.2 hsv
      have hQ' := dm_RQ_k (l := l) (c := c) (v := v) hQ (Or.inl ⟨by omega, by omega⟩)
      have hP1 : dm_RP lc (dm_f2 k l c v) V (dm_fu R l c) (dm_fu dI l 2) (dm_fu dA l (dm_oth c (d l) 4)) n M a_msgType a_msgTo a_msgLine a_msgCore a_msgInfo a_msgAcks a_msgWords := dm_RP_idle (dm_RP_k hP (Or.inl ⟨by omega, by omega⟩)) hid
      rw [← dm_fself (f := n) (i := l), ← dm_iv7_0 (n := n l) (c := c) (d := d l)] at hP1
      refine dm_w_sw hl8 hown ⟨cc + 1, dm_sw66 (MB := MB) (D := d l) (k' := dm_f2 k l c v) (R' := dm_fu R l c) (dI' := dm_fu dI l 2) (dA' := dm_fu dA l (dm_oth c (d l) 4)) (V := V) (n := n) (by omega) hZ.2.2.2.1 hl hc u2 dm_fs dm_fs (by rw [dm_fs, h4c.2]) hcl (fun hb M w1 w2 w3 w4 w5 w6 w7 hM2 hPf => ?_) (fun hb M w1 w2 w3 w4 w5 w6 w7 hM2 hPf => ?_) hB cc 0 (by omega) M _ _ _ _ _ _ _ (by omega) hP1⟩
      · have hv5 : v = 12 ∧ k l c = 5 := by
          rcases hv with h | h
          · exact h
          · have := hdr c hc; rw [h.2] at this; exact absurd this hb
        obtain ⟨rfl, hk5⟩ := hv5
        rw [← h4c.1] at hPf
        have hLn := dm_t_swD hl0 hc hn hw hno hk5
        have hph := dm_p_swD (n := n l) (gr := gr l) (nq := nq l) hc hn (dm_oth3 (d := d l) hc)
        have hM' := dm_RM_set (l := l) (K := dm_fu (k l) c 12) (N := dm_i (dm_iv7 (n l) c (d l) 4) 9 c) (I := 2) (mem' := a_memory) hM (fun g => hM l hl (mcI _ _ (by rw [dm_in (by decide), dm_iv7_n (by decide)]) 2 g)) (fun _ _ => rfl)
        exact K _ (dm_IH_of (v := 12) ⟨hZ, hF', hH', hM', hQ', hPf, hO, hV, hC, hNv⟩ hL hLn hl8 hsv (by omega) hp hN hgn e1 e2 e3 e4 hM2 (by omega))
      · have hv5 : v = 13 ∧ k l c = 6 := by
          rcases hv with h | h
          · have := hdr c hc; rw [h.2, hb] at this; exact absurd this (by decide)
          · exact h
        obtain ⟨rfl, hk5⟩ := hv5
        rw [← h4c.1] at hPf
        have hLn := dm_t_swG hl0 hc hn hw hno hk5
        have hph := dm_p_swG (n := n l) (gr := gr l) (nq := nq l) hc hn (dm_oth3 (d := d l) hc)
        have hM' := dm_RM_set (l := l) (K := dm_fu (k l) c 13) (N := dm_i (dm_iv7 (n l) c (d l) 4) 10 c) (I := 2) (mem' := a_memory) hM (fun g => hM l hl (mcI _ _ (by rw [dm_in (by decide), dm_iv7_n (by decide)]) 2 g)) (fun _ _ => rfl)
        exact K _ (dm_IH_of (v := 13) ⟨hZ, hF', hH', hM', hQ', hPf, hO, hV, hC, hNv⟩ hL hLn hl8 hsv (by omega) hp hN hgn e1 e2 e3 e4 hM2 (by omega))
    rcases hk with h | h
    · exact go 12 (Or.inl ⟨rfl, h⟩)
    · exact go 13 (Or.inr ⟨rfl, h⟩)
  · obtain ⟨o, ho4, eo, hdo, hoth⟩ := dm_DO_own u1 hown
    have hex := dm_ex1 hl0.2.1 ho4 (dm_ro_ow (by rw [← hdr o ho4]; exact hdo)).1
    have hk5 : k l c = 5 := by
      rcases hk with h | h
      · exact h
      · by_cases g : c = o
        · have := hdr o ho4; rw [← g, h] at this; rw [← g] at hdo; rw [hdo] at this; exact absurd this (by decide)
        · have := hex c hc g; rw [h] at this; exact absurd this (by decide)
    have hsv : dm_sv (k l c) 12 := Or.inr (Or.inl ⟨hk5, rfl⟩)
    have hF' := dm_RF_sv hF hZ.2.2.2.1 hZ.2.2.2.2.2 hsv
    have hQ' := dm_RQ_k (l := l) (c := c) (v := 12) hQ (Or.inl ⟨by omega, by omega⟩)
    have hLn := dm_t_swO hl0 hc ho4 hn hw hdo
    have hph := dm_p_swO hl0 hc ho4 hn hw hdo
    have hP1 : dm_RP lc (dm_f2 k l c 12) V (dm_fu R l c) (dm_fu dI l 2) (dm_fu dA l (dA l)) n M a_msgType a_msgTo a_msgLine a_msgCore a_msgInfo a_msgAcks a_msgWords := dm_RP_idle (dm_RP_k hP (Or.inl ⟨by omega, by omega⟩)) hid
    rw [← dm_fself (f := n) (i := l)] at hP1
    have hP2 := dm_RP_post (t := 6) (c := o) (p1 := nI o) (p3 := nI c) (p4 := 0) (p5 := 0) (wds' := a_msgWords) hP1 hZ.2.2.2.1 hl (by omega) ho4
      ⟨fun z => absurd z (by decide), fun z => absurd z (by decide), fun z => absurd z (by decide), fun _ _ => ⟨rfl, by rw [dm_fs]⟩, fun z => absurd z (by decide), fun z => absurd z (by decide), fun z => absurd z (by decide), fun z => absurd z (by decide)⟩ (fun x hx => rfl)
    have hH' := dm_RH_set (l := l) (a := 1) (D := d l) (ND := fun x => if x = c then 2 else 0) (own' := a_homeOwner) (sh' := a_homeSharers) (nown' := upd a_homeNextOwner l (nI c)) (nsh' := upd a_homeNextSharers l 0) (bu' := upd a_homeBusy l 1) (aws' := upd a_homeAwaits l 1) hH u1 u2
      (by rw [pk_us]; exact Or.inr ⟨c, hc, rfl, if_pos rfl, fun e he hne => by dsimp only; rw [if_neg hne]; decide⟩) (by rw [pk_us]; exact dm_DS_0 (fun e he => by split <;> decide)) (by rw [pk_us]; rfl) (by rw [pk_us]; rfl)
      (fun j hj => ⟨rfl, rfl, pk_un hj, pk_un hj, pk_un hj, pk_un hj⟩)
    have hM' := dm_RM_set (l := l) (K := dm_fu (k l) c 12) (N := dm_i (n l) 6 o) (I := 2) (mem' := a_memory) hM (fun g => hM l hl (mcI _ _ (dm_in (by decide)) 2 g)) (fun _ _ => rfl)
    exact dm_w_swO hl8 (by omega) eo ho4 (K _ (dm_IH_of (v := 12) ⟨hZ, hF', hH', hM', hQ', hP2, hO, hV, hC, hNv⟩ hL hLn hl8 hsv (by omega) hp hN hgn e1 e2 e3 e4 (by omega) (by omega)))
/-- Put -/
theorem dm_h_put {Qm : Nat → Nat → Nat} (K : ∀ u', dm_IH cc lc fc oc ok oa cu val y_acc y_opn y_fin y_cur gl N l (MB + 4) QB u' → post u') (hX : dm_X cc lc fc k gr ac fr d nd aw n (dm_fu nq l Qm) R dI dA V oc ok oa pf cu val M a_opKind a_opAddress a_opOperand a_opResult a_opPerformed a_acc a_nextVictim a_frameLine a_frameState a_frameTarget a_frameAcks a_frameGranted a_frameWords a_memory a_current a_homeOwner a_homeSharers a_homeNextOwner a_homeNextSharers a_homeBusy a_homeAwaits a_queueHead a_queueLength a_queueType a_queueCore a_queueInfo a_queueWords a_msgType a_msgTo a_msgLine a_msgCore a_msgInfo a_msgAcks a_msgWords) (hL : dm_LQ l k gr ac d nd aw n nq R dI dA cu) (hl : l < lc) (hc : c < 4) (hw : aw l = 0) (hp : ∀ e, e < 4 → dm_PU fc oc ok oa pf k a_frameLine e) (hN : dm_Phi n nq gr + dm_s4 (dm_Psi oc ok oa pf k) ≤ N) (hgn : ∀ e, e < 4 → dm_gn (k gl e)) (e1 : a_acc = y_acc) (e2 : a_opOperand = y_opn) (e3 : a_closedCount = y_fin) (e4 : a_current = y_cur) (hMB : M ≤ MB) (hB : MB + 4 ≤ 127) (hQB : dm_NQ (nq l) ≤ QB + 1) (eQ : Qm = dm_d (nq l) 2 c) (hn : 1 ≤ nq l 2 c) (hcq : dm_CQ k V l 2 c f_inInfo (fun i => a_inWords i)) : wpX_servePut post (f_msgGetS, f_msgGetM, f_msgPut, f_msgDone, f_msgCopyBack, f_msgFwdS, f_msgFwdM, f_msgInv, f_msgAck, f_msgData, f_msgGrant, f_msgPutAck, f_stFree, f_stS, f_stE, f_stM, f_stIS, f_stIM, f_stSM, f_stSI, f_stEI, f_stMI, f_stII, nI cc, nI lc, nI fc, nI M, f_inType, f_inTo, f_inLine, f_inCore, f_inInfo, f_inAcks, a_opKind, a_opAddress, a_opOperand, a_opResult, a_opPerformed, a_acc, a_closedCount, a_nextVictim, a_frameLine, a_frameState, a_frameTarget, a_frameAcks, a_frameGranted, a_frameWords, a_memory, a_current, a_homeOwner, a_homeSharers, a_homeNextOwner, a_homeNextSharers, a_homeBusy, a_homeAwaits, a_queueHead, a_queueLength, a_queueType, a_queueCore, a_queueInfo, a_queueWords, a_msgType, a_msgTo, a_msgLine, a_msgCore, a_msgInfo, a_msgAcks, a_msgWords, a_inWords) (nI l) (nI c) := by
  subst eQ
  obtain ⟨hZ, hF, hH, hM, hQ, hP, hO, hV, hC, hNv⟩ := hX
  have hl8 : l < 8 := by omega
  have hl0 := (hL l hl8).1
  obtain ⟨u1, u2, u3, u4, u5, u6⟩ := hH l hl
  obtain ⟨h7, h10, hLn, hph⟩ := dm_t_sp hl0 hc hn hw
  have hsv : dm_sv (k l c) (k l c + 7) := Or.inr (Or.inr (Or.inr ⟨h7, h10, rfl⟩))
  have hT0 := hl0.2.1
  rw [hw] at hT0
  have hs := dm_idle_s hT0
  have hdr : ∀ o, o < 4 → d l o = dm_ro (k l o) := fun o ho => (hl0.2.2 o ho).1 hw
  have hNQ := dm_NQ_d (nq := nq l) (t := 2) (by omega) hc hn
  have hF' := dm_RF_sv hF hZ.2.2.2.1 hZ.2.2.2.2.2 hsv
  have hQ' := dm_RQ_k (l := l) (c := c) (v := k l c + 7) hQ (Or.inl ⟨by omega, by omega⟩)
  have hP1 := dm_RP_k (l := l) (c := c) (v := k l c + 7) hP (Or.inl ⟨by omega, by omega⟩)
  rw [← dm_fself (f := n) (i := l), ← dm_fself (f := R) (i := l), ← dm_fself (f := dI) (i := l), ← dm_fself (f := dA) (i := l)] at hP1
  have hP2 := dm_RP_post (t := 11) (c := c) (p1 := nI c) (p3 := nI c) (p4 := 0) (p5 := 0) (wds' := a_msgWords) hP1 hZ.2.2.2.1 hl (by omega) hc
    ⟨fun z => absurd z (by decide), fun z => absurd z (by decide), fun z => absurd z (by decide), fun _ z => absurd z (by decide), fun z => absurd z (by decide), fun z => absurd z (by decide), fun z => absurd z (by decide), fun _ => rfl⟩ (fun x hx => rfl)
  have hb0 : a_homeBusy l = nI (dm_b 0) := by rw [u5, hw]
  have ha0 : a_homeAwaits l = nI 0 := by rw [u6, hw]
  have mcN : k l c ≠ 9 → dm_mc (dm_fu (k l) c (k l c + 7)) (dm_i (n l) 11 c) (dI l) (cu l) → dm_mc (k l) (n l) (dI l) (cu l) := fun h9 g => by
    refine dm_mc_mono (by rw [dm_in (by decide)]; omega) (fun _ => Or.inl hs.2) ?_ g
    have e := dm_s4_g dm_dt (f := k l) (c := c) (v := k l c + 7) hc
    have : dm_dt (k l c) = 0 := by rw [dm_dt, if_neg (by omega)]
    omega
  by_cases hown : a_homeOwner l = nI c
  · have hd2 := (dm_DO_eq u1 hc).mp hown
    have hro := hdr c hc
    rw [hd2] at hro
    have hk89 : k l c = 8 ∨ k l c = 9 := by
      have := dm_ow_k (x := k l c) (by have := (dm_ro_ow hro.symm).1; omega)
      omega
    have hex := dm_ex1 hl0.2.1 hc (dm_ro_ow hro.symm).1
    have hH' := dm_RH_set (l := l) (a := 0) (D := dm_fu (d l) c 0) (ND := nd l) (own' := upd a_homeOwner l (-1)) (sh' := a_homeSharers) (nown' := a_homeNextOwner) (nsh' := a_homeNextSharers) (bu' := a_homeBusy) (aws' := a_homeAwaits) hH
      (by rw [pk_us]; exact Or.inl ⟨rfl, fun e he => by
            by_cases g : e = c
            · subst g; rw [dm_fs]; decide
            · rw [dm_fn g, hdr e he, hex e he g]; decide⟩)
      (by
        obtain ⟨b, hb, eb, hb2⟩ := u2
        refine ⟨b, hb, eb, fun e he => ?_⟩
        by_cases g : e = c
        · subst g; rw [dm_fs, hb2 e he, hd2]; decide
        · rw [dm_fn g]; exact hb2 e he) u3 u4 hb0 ha0
      (fun j hj => ⟨pk_un hj, rfl, rfl, rfl, rfl, rfl⟩)
    rcases hk89 with hk8 | hk9
    · have hinf : ¬ f_inInfo = 1 := (hcq rfl).2 hk8
      have hM' := dm_RM_set (l := l) (K := dm_fu (k l) c (k l c + 7)) (N := dm_i (n l) 11 c) (I := dI l) (mem' := a_memory) hM (fun g => hM l hl (mcN (by omega) g)) (fun _ _ => rfl)
      exact dm_w_spO0 hl8 (by omega) hown hinf (K _ (dm_IH_of ⟨hZ, hF', hH', hM', hQ', hP2, hO, hV, hC, hNv⟩ hL hLn hl8 hsv hph hp hN hgn e1 e2 e3 e4 (by omega) (by omega)))
    · obtain ⟨hinf, hwv⟩ := (hcq rfl).1 hk9
      have hM' := dm_RM_set (l := l) (K := dm_fu (k l) c (k l c + 7)) (N := dm_i (n l) 11 c) (I := dI l) (mem' := dm_cp a_memory (4 * l) a_inWords 0 4) hM (fun g i hi => by rw [dm_cpi hi, Nat.zero_add]; exact hwv i hi) (fun j hj => dm_cpo (by omega))
      exact dm_w_spO1 hl8 (by omega) hown hinf (K _ (dm_IH_of ⟨hZ, hF', hH', hM', hQ', hP2, hO, hV, hC, hNv⟩ hL hLn hl8 hsv hph hp hN hgn e1 e2 e3 e4 (by omega) (by omega)))
  · have hd2 : d l c ≠ 2 := fun z => hown ((dm_DO_eq u1 hc).mpr z)
    have hk9 : k l c ≠ 9 := fun z => hd2 (by rw [hdr c hc, z]; rfl)
    have hH' := dm_RH_set (l := l) (a := 0) (D := dm_fu (d l) c 0) (ND := nd l) (own' := a_homeOwner) (sh' := upd a_homeSharers l (a_homeSharers l &&& (((1 : Int32) <<< (nI c &&& 31)) ^^^ (-1)))) (nown' := a_homeNextOwner) (nsh' := a_homeNextSharers) (bu' := a_homeBusy) (aws' := a_homeAwaits) hH
      (by
        rcases u1 with ⟨a, b⟩ | ⟨o, ho, eo, h1, h2⟩
        · exact Or.inl ⟨a, fun e he => by
            by_cases g : e = c
            · subst g; rw [dm_fs]; decide
            · rw [dm_fn g]; exact b e he⟩
        · have hoc : o ≠ c := fun z => hd2 (by rw [← z]; exact h1)
          exact Or.inr ⟨o, ho, eo, by rw [dm_fn hoc]; exact h1, fun e he hne => by
            by_cases g : e = c
            · subst g; rw [dm_fs]; decide
            · rw [dm_fn g]; exact h2 e he hne⟩)
      (by rw [pk_us]; exact dm_DS_clr u2 hc (fun e he => by
            by_cases g : e = c
            · subst g; rw [dm_fs]; simp
            · rw [dm_fn g]; simp [g])) u3 u4 hb0 ha0
      (fun j hj => ⟨rfl, pk_un hj, rfl, rfl, rfl, rfl⟩)
    have hM' := dm_RM_set (l := l) (K := dm_fu (k l) c (k l c + 7)) (N := dm_i (n l) 11 c) (I := dI l) (mem' := a_memory) hM (fun g => hM l hl (mcN hk9 g)) (fun _ _ => rfl)
    exact dm_w_spN hl8 (by omega) hown (K _ (dm_IH_of ⟨hZ, hF', hH', hM', hQ', hP2, hO, hV, hC, hNv⟩ hL hLn hl8 hsv hph hp hN hgn e1 e2 e3 e4 (by omega) (by omega)))
end
end
section

section
variable {cc lc fc : Nat} {oc ok oa cu : Nat → Nat} {val y_acc y_opn y_fin y_cur : Nat → Int32} {gl N : Nat} {k gr fr d nd : Nat → Nat → Nat} {ac : Nat → Nat → Int} {aw R dI dA pf : Nat → Nat} {n nq : Nat → Nat → Nat → Nat} {V : Nat → Nat → Int32} {M MB QB c l : Nat} {f_msgGetS f_msgGetM f_msgPut f_msgDone f_msgCopyBack f_msgFwdS f_msgFwdM f_msgInv f_msgAck f_msgData f_msgGrant f_msgPutAck f_stFree f_stS f_stE f_stM f_stIS f_stIM f_stSM f_stSI f_stEI f_stMI f_stII f_coreCount f_lineCount f_frameCount f_msgCount f_inType f_inTo f_inLine f_inCore f_inInfo f_inAcks : Int32} {a_opKind a_opAddress a_opOperand a_opResult a_opPerformed a_acc a_closedCount a_nextVictim a_frameLine a_frameState a_frameTarget a_frameAcks a_frameGranted a_frameWords a_memory a_current a_homeOwner a_homeSharers a_homeNextOwner a_homeNextSharers a_homeBusy a_homeAwaits a_queueHead a_queueLength a_queueType a_queueCore a_queueInfo a_queueWords a_msgType a_msgTo a_msgLine a_msgCore a_msgInfo a_msgAcks a_msgWords a_inWords : Nat → Int32} {post : SX → Prop}
theorem dm_serve {Qm : Nat → Nat → Nat} {t : Nat} (K : ∀ u', dm_IH cc lc fc oc ok oa cu val y_acc y_opn y_fin y_cur gl N l (MB + 4) QB u' → post u') (hX : dm_X cc lc fc k gr ac fr d nd aw n (dm_fu nq l Qm) R dI dA V oc ok oa pf cu val M a_opKind a_opAddress a_opOperand a_opResult a_opPerformed a_acc a_nextVictim a_frameLine a_frameState a_frameTarget a_frameAcks a_frameGranted a_frameWords a_memory a_current a_homeOwner a_homeSharers a_homeNextOwner a_homeNextSharers a_homeBusy a_homeAwaits a_queueHead a_queueLength a_queueType a_queueCore a_queueInfo a_queueWords a_msgType a_msgTo a_msgLine a_msgCore a_msgInfo a_msgAcks a_msgWords) (hL : dm_LQ l k gr ac d nd aw n nq R dI dA cu) (hl : l < lc) (hc : c < 4) (hw : aw l = 0) (hp : ∀ e, e < 4 → dm_PU fc oc ok oa pf k a_frameLine e) (hN : dm_Phi n nq gr + dm_s4 (dm_Psi oc ok oa pf k) ≤ N) (hgn : ∀ e, e < 4 → dm_gn (k gl e)) (e1 : a_acc = y_acc) (e2 : a_opOperand = y_opn) (e3 : a_closedCount = y_fin) (e4 : a_current = y_cur) (hMB : M ≤ MB) (hB : MB + 4 ≤ 127) (hQB : dm_NQ (nq l) ≤ QB + 1) (eQ : Qm = dm_d (nq l) t c) (ht : t < 3) (hn : 1 ≤ nq l t c) (hty : f_inType = nI t) (hco : f_inCore = nI c) (hcq : dm_CQ k V l t c f_inInfo (fun i => a_inWords i)) : wpX_serve post (f_msgGetS, f_msgGetM, f_msgPut, f_msgDone, f_msgCopyBack, f_msgFwdS, f_msgFwdM, f_msgInv, f_msgAck, f_msgData, f_msgGrant, f_msgPutAck, f_stFree, f_stS, f_stE, f_stM, f_stIS, f_stIM, f_stSM, f_stSI, f_stEI, f_stMI, f_stII, nI cc, nI lc, nI fc, nI M, f_inType, f_inTo, f_inLine, f_inCore, f_inInfo, f_inAcks, a_opKind, a_opAddress, a_opOperand, a_opResult, a_opPerformed, a_acc, a_closedCount, a_nextVictim, a_frameLine, a_frameState, a_frameTarget, a_frameAcks, a_frameGranted, a_frameWords, a_memory, a_current, a_homeOwner, a_homeSharers, a_homeNextOwner, a_homeNextSharers, a_homeBusy, a_homeAwaits, a_queueHead, a_queueLength, a_queueType, a_queueCore, a_queueInfo, a_queueWords, a_msgType, a_msgTo, a_msgLine, a_msgCore, a_msgInfo, a_msgAcks, a_msgWords, a_inWords) (nI l) := by
  subst hty hco
  have : t = 0 ∨ t = 1 ∨ t = 2 := by omega
  rcases this with rfl | rfl | rfl
  · exact br_t rfl (dm_h_read (fun u' h => K u' h) hX hL hl hc hw hp hN hgn e1 e2 e3 e4 hMB hB hQB eQ hn)
  · exact br_f (by decide) (br_t rfl (dm_h_write (fun u' h => K u' h) hX hL hl hc hw hp hN hgn e1 e2 e3 e4 hMB hB hQB eQ hn))
  · exact br_f (by decide) (br_f (by decide) (br_t rfl (dm_h_put (fun u' h => K u' h) hX hL hl hc hw hp hN hgn e1 e2 e3 e4 hMB hB hQB eQ hn hcq)))
end
def dm_SWu (post : SX → Prop) (l : Int32) (m : Nat) (x : Int32) (u : SX) : Prop := match u with
  | (f_msgGetS, f_msgGetM, f_msgPut, f_msgDone, f_msgCopyBack, f_msgFwdS, f_msgFwdM, f_msgInv, f_msgAck, f_msgData, f_msgGrant, f_msgPutAck, f_stFree, f_stS, f_stE, f_stM, f_stIS, f_stIM, f_stSM, f_stSI, f_stEI, f_stMI, f_stII, f_coreCount, f_lineCount, f_frameCount, f_msgCount, f_inType, f_inTo, f_inLine, f_inCore, f_inInfo, f_inAcks, a_opKind, a_opAddress, a_opOperand, a_opResult, a_opPerformed, a_acc, a_closedCount, a_nextVictim, a_frameLine, a_frameState, a_frameTarget, a_frameAcks, a_frameGranted, a_frameWords, a_memory, a_current, a_homeOwner, a_homeSharers, a_homeNextOwner, a_homeNextSharers, a_homeBusy, a_homeAwaits, a_queueHead, a_queueLength, a_queueType, a_queueCore, a_queueInfo, a_queueWords, a_msgType, a_msgTo, a_msgLine, a_msgCore, a_msgInfo, a_msgAcks, a_msgWords, a_inWords) => wX_serveWaiting_2 post l m x f_msgGetS f_msgGetM f_msgPut f_msgDone f_msgCopyBack f_msgFwdS f_msgFwdM f_msgInv f_msgAck f_msgData f_msgGrant f_msgPutAck f_stFree f_stS f_stE f_stM f_stIS f_stIM f_stSM f_stSI f_stEI f_stMI f_stII f_coreCount f_lineCount f_frameCount f_msgCount f_inType f_inTo f_inLine f_inCore f_inInfo f_inAcks a_opKind a_opAddress a_opOperand a_opResult a_opPerformed a_acc a_closedCount a_nextVictim a_frameLine a_frameState a_frameTarget a_frameAcks a_frameGranted a_frameWords a_memory a_current a_homeOwner a_homeSharers a_homeNextOwner a_homeNextSharers a_homeBusy a_homeAwaits a_queueHead a_queueLength a_queueType a_queueCore a_queueInfo a_queueWords a_msgType a_msgTo a_msgLine a_msgCore a_msgInfo a_msgAcks a_msgWords a_inWords
theorem dm_IH_IB {cc lc fc : Nat} {oc ok oa cu : Nat → Nat} {val y_acc y_opn y_fin y_cur : Nat → Int32} {gl N : Nat} {l MB : Nat} {u : SX} (I : dm_IH cc lc fc oc ok oa cu val y_acc y_opn y_fin y_cur gl N l MB 0 u) : dm_IB cc lc fc oc ok oa cu val y_acc y_opn y_fin y_cur gl N u := by
  refine dm_IH_el (P := fun u => dm_IB cc lc fc oc ok oa cu val y_acc y_opn y_fin y_cur gl N u) ?_ I
  intro k gr ac fr d nd aw n nq R dI dA V pf M f_msgGetS f_msgGetM f_msgPut f_msgDone f_msgCopyBack f_msgFwdS f_msgFwdM f_msgInv f_msgAck f_msgData f_msgGrant f_msgPutAck f_stFree f_stS f_stE f_stM f_stIS f_stIM f_stSM f_stSI f_stEI f_stMI f_stII f_coreCount f_lineCount f_frameCount f_msgCount f_inType f_inTo f_inLine f_inCore f_inInfo f_inAcks a_opKind a_opAddress a_opOperand a_opResult a_opPerformed a_acc a_closedCount a_nextVictim a_frameLine a_frameState a_frameTarget a_frameAcks a_frameGranted a_frameWords a_memory a_current a_homeOwner a_homeSharers a_homeNextOwner a_homeNextSharers a_homeBusy a_homeAwaits a_queueHead a_queueLength a_queueType a_queueCore a_queueInfo a_queueWords a_msgType a_msgTo a_msgLine a_msgCore a_msgInfo a_msgAcks a_msgWords a_inWords hX hL hp hN hg e1 e2 e3 e4 hM hQ
  exact dm_IB_mk hX (dm_LQ_LL hL (fun _ => by omega)) hp hN hg e1 e2 e3 e4
theorem dm_sw_loop {cc lc fc : Nat} {oc ok oa cu : Nat → Nat} {val y_acc y_opn y_fin y_cur : Nat → Int32} {gl N : Nat} {l MB : Nat} {post : SX → Prop} (hl : l < lc) (hB : MB + 20 ≤ 127) (K : ∀ u', dm_IB cc lc fc oc ok oa cu val y_acc y_opn y_fin y_cur gl N u' → post u') : ∀ j i, i + j = 4 → ∀ u, dm_IH cc lc fc oc ok oa cu val y_acc y_opn y_fin y_cur gl N l (MB + 4 * i) j u → dm_SWu post (nI l) (j + 1) (nI i) u := by
  intro j
  induction j with
  | zero =>
    intro i hi u I
    obtain rfl : i = 4 := by omega
    have q := dm_IH_IB I
    refine dm_IB_el (P := fun u => dm_IB cc lc fc oc ok oa cu val y_acc y_opn y_fin y_cur gl N u → dm_SWu post (nI l) 1 (nI 4) u) ?_ q q
    intro k gr ac fr d nd aw n nq R dI dA V pf M f_msgGetS f_msgGetM f_msgPut f_msgDone f_msgCopyBack f_msgFwdS f_msgFwdM f_msgInv f_msgAck f_msgData f_msgGrant f_msgPutAck f_stFree f_stS f_stE f_stM f_stIS f_stIM f_stSM f_stSI f_stEI f_stMI f_stII f_coreCount f_lineCount f_frameCount f_msgCount f_inType f_inTo f_inLine f_inCore f_inInfo f_inAcks a_opKind a_opAddress a_opOperand a_opResult a_opPerformed a_acc a_closedCount a_nextVictim a_frameLine a_frameState a_frameTarget a_frameAcks a_frameGranted a_frameWords a_memory a_current a_homeOwner a_homeSharers a_homeNextOwner a_homeNextSharers a_homeBusy a_homeAwaits a_queueHead a_queueLength a_queueType a_queueCore a_queueInfo a_queueWords a_msgType a_msgTo a_msgLine a_msgCore a_msgInfo a_msgAcks a_msgWords a_inWords hX hL hp hN hg e1 e2 e3 e4 q
    exact br_t (nI_le (a := 4) (b := 4) (by omega) (by decide)) (K _ q)
  | succ j ih =>
    intro i hi u I
    refine dm_IH_el (P := fun u => dm_SWu post (nI l) (j + 1 + 1) (nI i) u) ?_ I
    intro k gr ac fr d nd aw n nq R dI dA V pf M f_msgGetS f_msgGetM f_msgPut f_msgDone f_msgCopyBack f_msgFwdS f_msgFwdM f_msgInv f_msgAck f_msgData f_msgGrant f_msgPutAck f_stFree f_stS f_stE f_stM f_stIS f_stIM f_stSM f_stSI f_stEI f_stMI f_stII f_coreCount f_lineCount f_frameCount f_msgCount f_inType f_inTo f_inLine f_inCore f_inInfo f_inAcks a_opKind a_opAddress a_opOperand a_opResult a_opPerformed a_acc a_closedCount a_nextVictim a_frameLine a_frameState a_frameTarget a_frameAcks a_frameGranted a_frameWords a_memory a_current a_homeOwner a_homeSharers a_homeNextOwner a_homeNextSharers a_homeBusy a_homeAwaits a_queueHead a_queueLength a_queueType a_queueCore a_queueInfo a_queueWords a_msgType a_msgTo a_msgLine a_msgCore a_msgInfo a_msgAcks a_msgWords a_inWords hX hL hp hN hg e1 e2 e3 e4 hM hQB
    have hZ := hX.1
    have hl8 : l < 8 := by omega
    have hvi : vp_in (nI l) 8 := vp_in_nI hl8 (by omega)
    have hcl : (nI l).toNatClampNeg = l := nI_clamp (by omega)
    obtain ⟨u1, u2, u3, u4, u5, u6⟩ := hX.2.2.1 l hl
    have hlen : a_queueLength l = nI (dm_NQ (nq l)) := by
      obtain ⟨h0, h1, h2, h3, _⟩ := hX.2.2.2.2.1 l hl
      exact h3
    have done : (aw l = 0 → dm_NQ (nq l) = 0) → post (f_msgGetS, f_msgGetM, f_msgPut, f_msgDone, f_msgCopyBack, f_msgFwdS, f_msgFwdM, f_msgInv, f_msgAck, f_msgData, f_msgGrant, f_msgPutAck, f_stFree, f_stS, f_stE, f_stM, f_stIS, f_stIM, f_stSM, f_stSI, f_stEI, f_stMI, f_stII, nI cc, nI lc, nI fc, nI M, f_inType, f_inTo, f_inLine, f_inCore, f_inInfo, f_inAcks, a_opKind, a_opAddress, a_opOperand, a_opResult, a_opPerformed, a_acc, a_closedCount, a_nextVictim, a_frameLine, a_frameState, a_frameTarget, a_frameAcks, a_frameGranted, a_frameWords, a_memory, a_current, a_homeOwner, a_homeSharers, a_homeNextOwner, a_homeNextSharers, a_homeBusy, a_homeAwaits, a_queueHead, a_queueLength, a_queueType, a_queueCore, a_queueInfo, a_queueWords, a_msgType, a_msgTo, a_msgLine, a_msgCore, a_msgInfo, a_msgAcks, a_msgWords, a_inWords) := fun h => K _ (dm_IB_mk hX (dm_LQ_LL hL h) hp hN hg e1 e2 e3 e4)
    refine br_f (nI_ge (b := 4) (by omega) (by decide)) ⟨hvi, ?_⟩
    rw [hcl, hlen]
    refine pk_le (dm_NQ (nq l)) 0 (fun h => done (fun _ => by omega)) (fun h => ⟨hvi, ?_⟩)
    rw [u5]
    refine pk_eq (dm_b (aw l)) 0 (fun hb => ?_) (fun hb => done (fun z => absurd (by rw [z]; rfl) hb)) (hx := rfl) (hy := rfl) (ha := by rw [dm_b]; split <;> omega)
    have hw : aw l = 0 := by
      rw [dm_b] at hb; split at hb
      · assumption
      · exact absurd hb (by decide)
    obtain ⟨hd, t, c, h4, ehd, elen, ht, hc, hn, ety, eco, ecq, hQ'⟩ := dm_RQ_deq (m := dm_NQ (nq l) - 1) hX.2.2.2.2.1 hl (by omega)
    have hX2 : dm_X cc lc fc k gr ac fr d nd aw n (dm_fu nq l (dm_d (nq l) t c)) R dI dA V oc ok oa pf cu val M a_opKind a_opAddress a_opOperand a_opResult a_opPerformed a_acc a_nextVictim a_frameLine a_frameState a_frameTarget a_frameAcks a_frameGranted a_frameWords a_memory a_current a_homeOwner a_homeSharers a_homeNextOwner a_homeNextSharers a_homeBusy a_homeAwaits (upd a_queueHead l (nI ((hd + 1) % 4))) (upd a_queueLength l (nI (dm_NQ (nq l) - 1))) a_queueType a_queueCore a_queueInfo a_queueWords a_msgType a_msgTo a_msgLine a_msgCore a_msgInfo a_msgAcks a_msgWords := by
      obtain ⟨x1, x2, x3, x4, x5, x6, x7, x8, x9, x10⟩ := hX
      exact ⟨x1, x2, x3, x4, hQ', x6, x7, x8, x9, x10⟩
    refine dm_w_deq hl8 h4 ehd elen (dm_serve (MB := MB + 4 * i) (QB := j) (fun u' hI => ?_) hX2 hL hl hc hw hp hN hg e1 e2 e3 e4 hM (by omega) hQB rfl ht hn ety eco ?_)
    · have hI' : dm_IH cc lc fc oc ok oa cu val y_acc y_opn y_fin y_cur gl N l (MB + 4 * (i + 1)) j u' := by
        rw [show MB + 4 * (i + 1) = MB + 4 * i + 4 from by omega]; exact hI
      exact nm_r (P := fun x => dm_SWu post (nI l) (j + 1) x u') (nI_1 i) (ih (i + 1) (by omega) u' hI')
    · intro z
      refine ⟨fun y => ⟨((ecq z).1 y).1, fun q hq => ?_⟩, (ecq z).2⟩
      have := ((ecq z).1 y).2 q hq
      have e := dm_cpi (w := a_inWords) (i := 0) (g := a_queueWords) (j := 4 * (4 * l + hd)) (m := 4) hq
      rw [Nat.zero_add] at e
      exact e.trans this
theorem dm_NQ4 {k gr d nd : Nat → Nat} {ac : Nat → Int} {aw : Nat} {n nq : Nat → Nat → Nat} {R dI dA cu : Nat} (h : dm_L0 k gr ac d nd aw n nq R dI dA cu) : dm_NQ nq ≤ 4 := by
  have c0 := dm_core_le h 0 (by omega)
  have c1 := dm_core_le h 1 (by omega)
  have c2 := dm_core_le h 2 (by omega)
  have c3 := dm_core_le h 3 (by omega)
  simp only [dm_NQ, dm_s4]; omega
section
variable {cc lc fc : Nat} {oc ok oa cu : Nat → Nat} {val y_acc y_opn y_fin y_cur : Nat → Int32} {gl N : Nat} {k gr fr d nd : Nat → Nat → Nat} {ac : Nat → Nat → Int} {aw R dI dA pf : Nat → Nat} {n nq : Nat → Nat → Nat → Nat} {V : Nat → Nat → Int32} {M MB QB c l : Nat} {f_msgGetS f_msgGetM f_msgPut f_msgDone f_msgCopyBack f_msgFwdS f_msgFwdM f_msgInv f_msgAck f_msgData f_msgGrant f_msgPutAck f_stFree f_stS f_stE f_stM f_stIS f_stIM f_stSM f_stSI f_stEI f_stMI f_stII f_coreCount f_lineCount f_frameCount f_msgCount f_inType f_inTo f_inLine f_inCore f_inInfo f_inAcks : Int32} {a_opKind a_opAddress a_opOperand a_opResult a_opPerformed a_acc a_closedCount a_nextVictim a_frameLine a_frameState a_frameTarget a_frameAcks a_frameGranted a_frameWords a_memory a_current a_homeOwner a_homeSharers a_homeNextOwner a_homeNextSharers a_homeBusy a_homeAwaits a_queueHead a_queueLength a_queueType a_queueCore a_queueInfo a_queueWords a_msgType a_msgTo a_msgLine a_msgCore a_msgInfo a_msgAcks a_msgWords a_inWords : Nat → Int32} {post : SX → Prop} {M0 : Nat} {o1 o2 o3 o4 o5 o6 o7 : Nat → Int32}
/-- a request from the pool -/
theorem dm_hr_req {t : Nat} (K : ∀ u', dm_IB cc lc fc oc ok oa cu val y_acc y_opn y_fin y_cur gl N u' → post u') (hX : dm_X cc lc fc k gr ac fr d nd aw n nq R dI dA V oc ok oa pf cu val M0 a_opKind a_opAddress a_opOperand a_opResult a_opPerformed a_acc a_nextVictim a_frameLine a_frameState a_frameTarget a_frameAcks a_frameGranted a_frameWords a_memory a_current a_homeOwner a_homeSharers a_homeNextOwner a_homeNextSharers a_homeBusy a_homeAwaits a_queueHead a_queueLength a_queueType a_queueCore a_queueInfo a_queueWords o1 o2 o3 o4 o5 o6 o7) (hL : dm_LL 8 k gr ac d nd aw n nq R dI dA cu) (hl : l < lc) (hc : c < 4) (hM : M ≤ 80) (hp : ∀ e, e < 4 → dm_PU fc oc ok oa pf k a_frameLine e) (hN : dm_Phi n nq gr + dm_s4 (dm_Psi oc ok oa pf k) ≤ N + 1) (hgn : ∀ e, e < 4 → dm_gn (k gl e)) (e1 : a_acc = y_acc) (e2 : a_opOperand = y_opn) (e3 : a_closedCount = y_fin) (e4 : a_current = y_cur) (ht : t < 3) (hP : dm_RP lc k V R dI dA (dm_fu n l (dm_d (n l) t c)) M a_msgType a_msgTo a_msgLine a_msgCore a_msgInfo a_msgAcks a_msgWords) (hn : 1 ≤ n l t c) (hi : f_inLine = nI l) (hty : f_inType = nI t) (hco : f_inCore = nI c) (hcq : dm_CQ k V l t c f_inInfo (fun i => a_inWords i)) : wpX_homeReceives post (f_msgGetS, f_msgGetM, f_msgPut, f_msgDone, f_msgCopyBack, f_msgFwdS, f_msgFwdM, f_msgInv, f_msgAck, f_msgData, f_msgGrant, f_msgPutAck, f_stFree, f_stS, f_stE, f_stM, f_stIS, f_stIM, f_stSM, f_stSI, f_stEI, f_stMI, f_stII, nI cc, nI lc, nI fc, nI M, f_inType, f_inTo, f_inLine, f_inCore, f_inInfo, f_inAcks, a_opKind, a_opAddress, a_opOperand, a_opResult, a_opPerformed, a_acc, a_closedCount, a_nextVictim, a_frameLine, a_frameState, a_frameTarget, a_frameAcks, a_frameGranted, a_frameWords, a_memory, a_current, a_homeOwner, a_homeSharers, a_homeNextOwner, a_homeNextSharers, a_homeBusy, a_homeAwaits, a_queueHead, a_queueLength, a_queueType, a_queueCore, a_queueInfo, a_queueWords, a_msgType, a_msgTo, a_msgLine, a_msgCore, a_msgInfo, a_msgAcks, a_msgWords, a_inWords) := by
  subst hi
  have hZ := hX.1
  have hl8 : l < 8 := by omega
  have hvi : vp_in (nI l) 8 := vp_in_nI hl8 (by omega)
  have hcl : (nI l).toNatClampNeg = l := nI_clamp (by omega)
  obtain ⟨u1, u2, u3, u4, u5, u6⟩ := hX.2.2.1 l hl
  have hl0 := hL l hl8
  obtain ⟨q1, q2⟩ := dm_t_enq hl0.1 hc ht hn
  have hPhi : dm_Phi (dm_fu n l (dm_d (n l) t c)) (dm_fu nq l (dm_i (nq l) t c)) gr + 1 ≤ dm_Phi n nq gr := by
    have q := dm_Phi_set (n := n) (nq := nq) (gr := gr) (N := dm_d (n l) t c) (Q := dm_i (nq l) t c) (G := gr l) hl8
    rw [dm_fself] at q
    omega
  obtain ⟨x1, x2, x3, x4, x5, x6, x7, x8, x9, x10⟩ := hX
  have hM' : dm_RM lc k (dm_fu n l (dm_d (n l) t c)) dI cu V a_memory := by
    intro x hx g
    by_cases e : x = l
    · subst e
      rw [dm_fs] at g
      refine x4 x hx (dm_mc_mono (by rw [dm_dn (by omega)]; omega) (by rw [dm_dn (by omega)]; exact id) (Nat.le_refl _) g)
    · rw [dm_fn e] at g; exact x4 x hx g
  have n3 : ¬ f_inType = 3 := by rw [hty]; intro z; rw [show (3 : Int32) = nI 3 from rfl, nI_eq (by omega) (by omega)] at z; omega
  have n4 : ¬ f_inType = 4 := by rw [hty]; intro z; rw [show (4 : Int32) = nI 4 from rfl, nI_eq (by omega) (by omega)] at z; omega
  refine br_f n3 (br_f n4 ⟨hvi, ?_⟩)
  rw [hcl, u5]
  refine pk_eq (dm_b (aw l)) 0 (fun hb => ?_) (fun hb => ?_) (hx := rfl) (hy := rfl) (ha := by rw [dm_b]; split <;> omega)
  · have hw : aw l = 0 := by
      rw [dm_b] at hb; split at hb
      · assumption
      · exact absurd hb (by decide)
    have hL' := dm_LQ_set (l := l) (dm_LL_LQ (l := l) hL) q1
    simp only [dm_fself] at hL'
    have hnq0 := hl0.2 hw
    have e0 : dm_fu (dm_fu nq l (dm_i (nq l) t c)) l (nq l) = nq := by rw [dm_fuu, dm_fself]
    refine dm_serve (fr := fr) (MB := 80) (QB := 0) (Qm := nq l) (n := dm_fu n l (dm_d (n l) t c)) (nq := dm_fu nq l (dm_i (nq l) t c)) (t := t) (c := c) (fun u' h => K u' (dm_IH_IB h)) ?_ hL' hl hc hw hp (by omega) hgn e1 e2 e3 e4 hM (by omega) (by rw [dm_fs, dm_NQ_i ht hc]; omega) (by rw [dm_fs, dm_d_i]) ht (by rw [dm_fs, dm_iv, if_pos ⟨rfl, rfl⟩]; omega) hty hco hcq
    rw [e0]
    exact ⟨x1, x2, x3, hM', x5, hP, x7, x8, x9, x10⟩
  · have hw : aw l ≠ 0 := fun z => hb (by rw [z]; rfl)
    have hNQ := dm_NQ_le hl0.1 hc ht hn
    obtain ⟨h0, h4, ehd, elen, hQ'⟩ := dm_RQ_enq (p := f_inInfo) (inw := a_inWords) x5 hl hNQ ht hc hcq
    have hL' := dm_LL_set (l := l) hL ⟨q1, fun z => absurd z hw⟩
    simp only [dm_fself] at hL'
    rw [← hty, ← hco] at hQ'
    exact dm_w_enq hl8 h4 hNQ rfl ehd elen (K _ (dm_IB_mk ⟨x1, x2, x3, hM', hQ', hP, x7, x8, x9, x10⟩ hL' hp (by omega) hgn e1 e2 e3 e4))
/-- behind Done or CopyBack -/
theorem dm_hr_34 {N' : Nat → Nat → Nat} {mem : Nat → Int32} (K : ∀ u', dm_IB cc lc fc oc ok oa cu val y_acc y_opn y_fin y_cur gl N u' → post u') (hX : dm_X cc lc fc k gr ac fr d nd aw n nq R dI dA V oc ok oa pf cu val M0 a_opKind a_opAddress a_opOperand a_opResult a_opPerformed a_acc a_nextVictim a_frameLine a_frameState a_frameTarget a_frameAcks a_frameGranted a_frameWords a_memory a_current a_homeOwner a_homeSharers a_homeNextOwner a_homeNextSharers a_homeBusy a_homeAwaits a_queueHead a_queueLength a_queueType a_queueCore a_queueInfo a_queueWords o1 o2 o3 o4 o5 o6 o7) (hL : dm_LL 8 k gr ac d nd aw n nq R dI dA cu) (hl : l < lc) (hc : c < 4) (hM : M ≤ 80) (hp : ∀ e, e < 4 → dm_PU fc oc ok oa pf k a_frameLine e) (hN : dm_Phi n nq gr + dm_s4 (dm_Psi oc ok oa pf k) ≤ N + 1) (hgn : ∀ e, e < 4 → dm_gn (k gl e)) (e1 : a_acc = y_acc) (e2 : a_opOperand = y_opn) (e3 : a_closedCount = y_fin) (e4 : a_current = y_cur) (hP : dm_RP lc k V R dI dA (dm_fu n l N') M a_msgType a_msgTo a_msgLine a_msgCore a_msgInfo a_msgAcks a_msgWords) (hM2 : dm_RM lc k (dm_fu n l N') dI cu V mem) (hw : 1 ≤ aw l) (q1 : 2 ≤ aw l → dm_L0 (k l) (gr l) (ac l) (d l) (nd l) (aw l - 1) N' (nq l) (R l) (dI l) (dA l) (cu l)) (q0 : aw l ≤ 1 → dm_L0 (k l) (gr l) (ac l) (nd l) (nd l) 0 N' (nq l) (R l) (dI l) (dA l) (cu l)) (hph : dm_phi N' (nq l) (gr l) + 1 ≤ dm_phi (n l) (nq l) (gr l)) : wX_homeReceives_34 post (nI l) f_msgGetS f_msgGetM f_msgPut f_msgDone f_msgCopyBack f_msgFwdS f_msgFwdM f_msgInv f_msgAck f_msgData f_msgGrant f_msgPutAck f_stFree f_stS f_stE f_stM f_stIS f_stIM f_stSM f_stSI f_stEI f_stMI f_stII (nI cc) (nI lc) (nI fc) (nI M) f_inType f_inTo f_inLine f_inCore f_inInfo f_inAcks a_opKind a_opAddress a_opOperand a_opResult a_opPerformed a_acc a_closedCount a_nextVictim a_frameLine a_frameState a_frameTarget a_frameAcks a_frameGranted a_frameWords mem a_current a_homeOwner a_homeSharers a_homeNextOwner a_homeNextSharers a_homeBusy a_homeAwaits a_queueHead a_queueLength a_queueType a_queueCore a_queueInfo a_queueWords a_msgType a_msgTo a_msgLine a_msgCore a_msgInfo a_msgAcks a_msgWords a_inWords := by
  have hZ := hX.1
  have hl8 : l < 8 := by omega
  have hvi : vp_in (nI l) 8 := vp_in_nI hl8 (by omega)
  have hcl : (nI l).toNatClampNeg = l := nI_clamp (by omega)
  obtain ⟨x1, x2, x3, x4, x5, x6, x7, x8, x9, x10⟩ := hX
  obtain ⟨u1, u2, u3, u4, u5, u6⟩ := x3 l hl
  have hPhi := dm_Phi_n1 (n := n) (nq := nq) (gr := gr) (N' := N') hl8 hph
  have hl0 := hL l hl8
  have ea : upd a_homeAwaits (nI l).toNatClampNeg (a_homeAwaits (nI l).toNatClampNeg - 1) = upd a_homeAwaits l (nI (aw l - 1)) := by
    rw [hcl, u6]
    congr 1
    have := nI_pred (aw l - 1)
    rw [show aw l - 1 + 1 = aw l from by omega] at this
    exact this
  refine ⟨hvi, hvi, nm_r ea ⟨hvi, ?_⟩⟩
  rw [hcl, pk_us]
  have hawb : aw l ≤ 4 := by
    have hT := hl0.1.2.1
    simp only [dm_LT] at hT
    obtain ⟨t1, t2, t3, _⟩ := hT
    omega
  refine pk_lt 0 (aw l - 1) (fun h => ?_) (fun h => ?_) (hx := rfl) (hy := rfl)
  · have hL' := dm_LL_set (l := l) hL ⟨q1 (by omega), fun z => absurd z (by omega)⟩
    simp only [dm_fself] at hL'
    have hH' := dm_RH_set (l := l) (a := aw l - 1) (D := d l) (ND := nd l) (own' := a_homeOwner) (sh' := a_homeSharers) (nown' := a_homeNextOwner) (nsh' := a_homeNextSharers) (bu' := a_homeBusy) (aws' := upd a_homeAwaits l (nI (aw l - 1))) x3 u1 u2 u3 u4 (by rw [u5, dm_b, dm_b, if_neg (by omega), if_neg (by omega)]) pk_us (fun j hj => ⟨rfl, rfl, rfl, rfl, rfl, pk_un hj⟩)
    rw [dm_fself, dm_fself] at hH'
    exact K _ (dm_IB_mk ⟨x1, x2, hH', hM2, x5, hP, x7, x8, x9, x10⟩ hL' hp (by omega) hgn e1 e2 e3 e4)
  · have hL' := dm_LQ_set (l := l) (dm_LL_LQ (l := l) hL) (q0 (by omega))
    simp only [dm_fself] at hL'
    have hH' := dm_RH_set (l := l) (a := 0) (D := nd l) (ND := nd l) (own' := upd a_homeOwner l (a_homeNextOwner l)) (sh' := upd a_homeSharers l (a_homeNextSharers l)) (nown' := a_homeNextOwner) (nsh' := a_homeNextSharers) (bu' := upd a_homeBusy l 0) (aws' := upd (upd a_homeAwaits l (nI (aw l - 1))) l 0) x3 (by rw [pk_us]; exact u3) (by rw [pk_us]; exact u4) u3 u4 (by rw [pk_us]; rfl) pk_us (fun j hj => ⟨pk_un hj, pk_un hj, rfl, rfl, pk_un hj, by rw [pk_un hj, pk_un hj]⟩)
    rw [dm_fself] at hH'
    have hI : dm_IH cc lc fc oc ok oa cu val y_acc y_opn y_fin y_cur gl N l (80 + 4 * 0) 4 (f_msgGetS, f_msgGetM, f_msgPut, f_msgDone, f_msgCopyBack, f_msgFwdS, f_msgFwdM, f_msgInv, f_msgAck, f_msgData, f_msgGrant, f_msgPutAck, f_stFree, f_stS, f_stE, f_stM, f_stIS, f_stIM, f_stSM, f_stSI, f_stEI, f_stMI, f_stII, nI cc, nI lc, nI fc, nI M, f_inType, f_inTo, f_inLine, f_inCore, f_inInfo, f_inAcks, a_opKind, a_opAddress, a_opOperand, a_opResult, a_opPerformed, a_acc, a_closedCount, a_nextVictim, a_frameLine, a_frameState, a_frameTarget, a_frameAcks, a_frameGranted, a_frameWords, mem, a_current, upd a_homeOwner l (a_homeNextOwner l), upd a_homeSharers l (a_homeNextSharers l), a_homeNextOwner, a_homeNextSharers, upd a_homeBusy l 0, upd (upd a_homeAwaits l (nI (aw l - 1))) l 0, a_queueHead, a_queueLength, a_queueType, a_queueCore, a_queueInfo, a_queueWords, a_msgType, a_msgTo, a_msgLine, a_msgCore, a_msgInfo, a_msgAcks, a_msgWords, a_inWords) := dm_IH_mk ⟨x1, x2, hH', hM2, x5, hP, x7, x8, x9, x10⟩ hL' hp (by omega) hgn e1 e2 e3 e4 (by omega) (dm_NQ4 hl0.1)
    exact dm_w_close hl8 ⟨5, dm_sw_loop hl (by omega) (fun u' h => K u' h) 4 0 (by omega) _ hI⟩
theorem dm_hr_done (K : ∀ u', dm_IB cc lc fc oc ok oa cu val y_acc y_opn y_fin y_cur gl N u' → post u') (hX : dm_X cc lc fc k gr ac fr d nd aw n nq R dI dA V oc ok oa pf cu val M0 a_opKind a_opAddress a_opOperand a_opResult a_opPerformed a_acc a_nextVictim a_frameLine a_frameState a_frameTarget a_frameAcks a_frameGranted a_frameWords a_memory a_current a_homeOwner a_homeSharers a_homeNextOwner a_homeNextSharers a_homeBusy a_homeAwaits a_queueHead a_queueLength a_queueType a_queueCore a_queueInfo a_queueWords o1 o2 o3 o4 o5 o6 o7) (hL : dm_LL 8 k gr ac d nd aw n nq R dI dA cu) (hl : l < lc) (hc : c < 4) (hM : M ≤ 80) (hp : ∀ e, e < 4 → dm_PU fc oc ok oa pf k a_frameLine e) (hN : dm_Phi n nq gr + dm_s4 (dm_Psi oc ok oa pf k) ≤ N + 1) (hgn : ∀ e, e < 4 → dm_gn (k gl e)) (e1 : a_acc = y_acc) (e2 : a_opOperand = y_opn) (e3 : a_closedCount = y_fin) (e4 : a_current = y_cur) (hP : dm_RP lc k V R dI dA (dm_fu n l (dm_d (n l) 3 c)) M a_msgType a_msgTo a_msgLine a_msgCore a_msgInfo a_msgAcks a_msgWords) (hn : 1 ≤ n l 3 c) (hi : f_inLine = nI l) (hty : f_inType = 3) : wpX_homeReceives post (f_msgGetS, f_msgGetM, f_msgPut, f_msgDone, f_msgCopyBack, f_msgFwdS, f_msgFwdM, f_msgInv, f_msgAck, f_msgData, f_msgGrant, f_msgPutAck, f_stFree, f_stS, f_stE, f_stM, f_stIS, f_stIM, f_stSM, f_stSI, f_stEI, f_stMI, f_stII, nI cc, nI lc, nI fc, nI M, f_inType, f_inTo, f_inLine, f_inCore, f_inInfo, f_inAcks, a_opKind, a_opAddress, a_opOperand, a_opResult, a_opPerformed, a_acc, a_closedCount, a_nextVictim, a_frameLine, a_frameState, a_frameTarget, a_frameAcks, a_frameGranted, a_frameWords, a_memory, a_current, a_homeOwner, a_homeSharers, a_homeNextOwner, a_homeNextSharers, a_homeBusy, a_homeAwaits, a_queueHead, a_queueLength, a_queueType, a_queueCore, a_queueInfo, a_queueWords, a_msgType, a_msgTo, a_msgLine, a_msgCore, a_msgInfo, a_msgAcks, a_msgWords, a_inWords) := by
  subst hi hty
  have hl8 : l < 8 := by have := hX.1; omega
  have hl0 := hL l hl8
  have hw : 1 ≤ aw l := by
    have hT := hl0.1.2.1
    simp only [dm_LT] at hT
    have := dm_s4_le (f := n l 3) hc
    have := hT.1
    omega
  have hM2 : dm_RM lc k (dm_fu n l (dm_d (n l) 3 c)) dI cu V a_memory := by
    intro x hx g
    by_cases e : x = l
    · subst e
      rw [dm_fs] at g
      refine hX.2.2.2.1 x hx (dm_mc_mono (by rw [dm_dn (by omega)]; omega) (by rw [dm_dn (by omega)]; exact id) (Nat.le_refl _) g)
    · rw [dm_fn e] at g; exact hX.2.2.2.1 x hx g
  have hph : dm_phi (dm_d (n l) 3 c) (nq l) (gr l) + 1 ≤ dm_phi (n l) (nq l) (gr l) := by
    by_cases z : 2 ≤ aw l
    · exact dm_p_done1 hl0.1 hc hn z
    · exact dm_p_done0 hl0.1 hc hn (by omega)
  exact br_t rfl (br_f (by decide) (dm_hr_34 K hX hL hl hc hM hp hN hgn e1 e2 e3 e4 hP hM2 hw (fun z => dm_t_done1 hl0.1 hc hn z) (fun z => dm_t_done0 hl0.1 hc hn z) hph))
theorem dm_hr_copy (K : ∀ u', dm_IB cc lc fc oc ok oa cu val y_acc y_opn y_fin y_cur gl N u' → post u') (hX : dm_X cc lc fc k gr ac fr d nd aw n nq R dI dA V oc ok oa pf cu val M0 a_opKind a_opAddress a_opOperand a_opResult a_opPerformed a_acc a_nextVictim a_frameLine a_frameState a_frameTarget a_frameAcks a_frameGranted a_frameWords a_memory a_current a_homeOwner a_homeSharers a_homeNextOwner a_homeNextSharers a_homeBusy a_homeAwaits a_queueHead a_queueLength a_queueType a_queueCore a_queueInfo a_queueWords o1 o2 o3 o4 o5 o6 o7) (hL : dm_LL 8 k gr ac d nd aw n nq R dI dA cu) (hl : l < lc) (hc : c < 4) (hM : M ≤ 80) (hp : ∀ e, e < 4 → dm_PU fc oc ok oa pf k a_frameLine e) (hN : dm_Phi n nq gr + dm_s4 (dm_Psi oc ok oa pf k) ≤ N + 1) (hgn : ∀ e, e < 4 → dm_gn (k gl e)) (e1 : a_acc = y_acc) (e2 : a_opOperand = y_opn) (e3 : a_closedCount = y_fin) (e4 : a_current = y_cur) (hP : dm_RP lc k V R dI dA (dm_fu n l (dm_d (n l) 4 c)) M a_msgType a_msgTo a_msgLine a_msgCore a_msgInfo a_msgAcks a_msgWords) (hn : 1 ≤ n l 4 c) (hi : f_inLine = nI l) (hty : f_inType = 4) (hwv : ∀ i, i < 4 → a_inWords i = V l i) : wpX_homeReceives post (f_msgGetS, f_msgGetM, f_msgPut, f_msgDone, f_msgCopyBack, f_msgFwdS, f_msgFwdM, f_msgInv, f_msgAck, f_msgData, f_msgGrant, f_msgPutAck, f_stFree, f_stS, f_stE, f_stM, f_stIS, f_stIM, f_stSM, f_stSI, f_stEI, f_stMI, f_stII, nI cc, nI lc, nI fc, nI M, f_inType, f_inTo, f_inLine, f_inCore, f_inInfo, f_inAcks, a_opKind, a_opAddress, a_opOperand, a_opResult, a_opPerformed, a_acc, a_closedCount, a_nextVictim, a_frameLine, a_frameState, a_frameTarget, a_frameAcks, a_frameGranted, a_frameWords, a_memory, a_current, a_homeOwner, a_homeSharers, a_homeNextOwner, a_homeNextSharers, a_homeBusy, a_homeAwaits, a_queueHead, a_queueLength, a_queueType, a_queueCore, a_queueInfo, a_queueWords, a_msgType, a_msgTo, a_msgLine, a_msgCore, a_msgInfo, a_msgAcks, a_msgWords, a_inWords) := by
  subst hi hty
  have hl8 : l < 8 := by have := hX.1; omega
  have hl0 := hL l hl8
  have hw : 1 ≤ aw l := by
    have hT := hl0.1.2.1
    simp only [dm_LT] at hT
    have := dm_s4_le (f := n l 4) hc
    have := hT.1
    omega
  have hM2 : dm_RM lc k (dm_fu n l (dm_d (n l) 4 c)) dI cu V (dm_cp a_memory (4 * l) a_inWords 0 4) := by
    intro x hx g
    by_cases e : x = l
    · subst e
      intro i hi
      rw [dm_cpi hi, Nat.zero_add]; exact hwv i hi
    · rw [dm_fn e] at g
      intro i hi
      rw [dm_cpo (by omega)]
      exact hX.2.2.2.1 x hx g i hi
  have hph : dm_phi (dm_d (n l) 4 c) (nq l) (gr l) + 1 ≤ dm_phi (n l) (nq l) (gr l) := by
    by_cases z : 2 ≤ aw l
    · exact dm_p_copy1 hl0.1 hc hn z
    · exact dm_p_copy0 hl0.1 hc hn (by omega)
  exact br_f (by decide) (br_t rfl (br_t rfl (dm_w_wmem hl8 (dm_hr_34 K hX hL hl hc hM hp hN hgn e1 e2 e3 e4 hP hM2 hw (fun z => dm_t_copy1 hl0.1 hc hn z) (fun z => dm_t_copy0 hl0.1 hc hn z) hph))))
end
end
section

section
variable {cc lc fc : Nat} {oc ok oa cu : Nat → Nat} {val y_acc y_opn y_fin y_cur : Nat → Int32} {gl N : Nat} {k gr fr d nd : Nat → Nat → Nat} {ac : Nat → Nat → Int} {aw R dI dA pf : Nat → Nat} {n nq : Nat → Nat → Nat → Nat} {V : Nat → Nat → Int32} {M MB QB c l : Nat} {f_msgGetS f_msgGetM f_msgPut f_msgDone f_msgCopyBack f_msgFwdS f_msgFwdM f_msgInv f_msgAck f_msgData f_msgGrant f_msgPutAck f_stFree f_stS f_stE f_stM f_stIS f_stIM f_stSM f_stSI f_stEI f_stMI f_stII f_coreCount f_lineCount f_frameCount f_msgCount f_inType f_inTo f_inLine f_inCore f_inInfo f_inAcks : Int32} {a_opKind a_opAddress a_opOperand a_opResult a_opPerformed a_acc a_closedCount a_nextVictim a_frameLine a_frameState a_frameTarget a_frameAcks a_frameGranted a_frameWords a_memory a_current a_homeOwner a_homeSharers a_homeNextOwner a_homeNextSharers a_homeBusy a_homeAwaits a_queueHead a_queueLength a_queueType a_queueCore a_queueInfo a_queueWords a_msgType a_msgTo a_msgLine a_msgCore a_msgInfo a_msgAcks a_msgWords a_inWords : Nat → Int32} {post : SX → Prop}
/-- the core that a message goes to has the line -/
theorem dm_key_cc {t : Nat} (hX : dm_X cc lc fc k gr ac fr d nd aw n nq R dI dA V oc ok oa pf cu val M a_opKind a_opAddress a_opOperand a_opResult a_opPerformed a_acc a_nextVictim a_frameLine a_frameState a_frameTarget a_frameAcks a_frameGranted a_frameWords a_memory a_current a_homeOwner a_homeSharers a_homeNextOwner a_homeNextSharers a_homeBusy a_homeAwaits a_queueHead a_queueLength a_queueType a_queueCore a_queueInfo a_queueWords a_msgType a_msgTo a_msgLine a_msgCore a_msgInfo a_msgAcks a_msgWords) (hL : dm_LL 8 k gr ac d nd aw n nq R dI dA cu) (hl : l < lc) (hc : c < 4) (hn : 1 ≤ n l t c) (ht : t = 5 ∨ t = 6 ∨ t = 7 ∨ t = 9 ∨ t = 10 ∨ t = 11) : c < cc := by
  have hZ := hX.1
  have hl0 := (hL l (by omega)).1
  obtain ⟨x1, x2, x3, x4, x5, x6, x7, x8, x9, x10, x11, x12⟩ := hl0.1 c hc
  have hk : k l c ≠ 0 := fun z => by
    rw [z] at x5 x7 x9 x10
    have y1 : dm_w3 0 = 0 := rfl
    have y2 : dm_t2 0 = 0 := rfl
    have y3 : dm_ow 0 = 0 := rfl
    have y4 : dm_sh 0 = 0 := rfl
    rcases ht with e | e | e | e | e | e <;> rw [e] at hn <;> omega
  exact (dm_RF_lt hX.2.1 hk).2
theorem dm_ho {s : Nat} (K : ∀ u', dm_IB cc lc fc oc ok oa cu val y_acc y_opn y_fin y_cur gl N u' → post u') (hX : dm_X cc lc fc k gr ac fr d nd aw n nq R dI dA V oc ok oa pf cu val M a_opKind a_opAddress a_opOperand a_opResult a_opPerformed a_acc a_nextVictim a_frameLine a_frameState a_frameTarget a_frameAcks a_frameGranted a_frameWords a_memory a_current a_homeOwner a_homeSharers a_homeNextOwner a_homeNextSharers a_homeBusy a_homeAwaits a_queueHead a_queueLength a_queueType a_queueCore a_queueInfo a_queueWords a_msgType a_msgTo a_msgLine a_msgCore a_msgInfo a_msgAcks a_msgWords) (hL : dm_LL 8 k gr ac d nd aw n nq R dI dA cu) (hp : ∀ e, e < 4 → dm_PU fc oc ok oa pf k a_frameLine e) (hN : dm_Phi n nq gr + dm_s4 (dm_Psi oc ok oa pf k) ≤ N + 1) (hgn : ∀ e, e < 4 → dm_gn (k gl e)) (e1 : a_acc = y_acc) (e2 : a_opOperand = y_opn) (e3 : a_closedCount = y_fin) (e4 : a_current = y_cur) (hg : ∀ e, e < 4 → oc e = 1 → oa e / 4 ≠ gl) (hs : s < M) : wpX_handOver post (f_msgGetS, f_msgGetM, f_msgPut, f_msgDone, f_msgCopyBack, f_msgFwdS, f_msgFwdM, f_msgInv, f_msgAck, f_msgData, f_msgGrant, f_msgPutAck, f_stFree, f_stS, f_stE, f_stM, f_stIS, f_stIM, f_stSM, f_stSI, f_stEI, f_stMI, f_stII, nI cc, nI lc, nI fc, nI M, f_inType, f_inTo, f_inLine, f_inCore, f_inInfo, f_inAcks, a_opKind, a_opAddress, a_opOperand, a_opResult, a_opPerformed, a_acc, a_closedCount, a_nextVictim, a_frameLine, a_frameState, a_frameTarget, a_frameAcks, a_frameGranted, a_frameWords, a_memory, a_current, a_homeOwner, a_homeSharers, a_homeNextOwner, a_homeNextSharers, a_homeBusy, a_homeAwaits, a_queueHead, a_queueLength, a_queueType, a_queueCore, a_queueInfo, a_queueWords, a_msgType, a_msgTo, a_msgLine, a_msgCore, a_msgInfo, a_msgAcks, a_msgWords, a_inWords) (nI s) := by
  have hM80 := dm_M80 hX hL
  have hZ := hX.1
  obtain ⟨m, rfl⟩ : ∃ m, M = m + 1 := ⟨M - 1, by omega⟩
  obtain ⟨l, t, c, hl, ht, hc, hn, eln, ety, hcm, hP⟩ := dm_RP_take hX.2.2.2.2.2.1 hZ.2.2.2.1 (s := s) (by omega)
  have hiw : ∀ i, i < 4 → dm_cp a_inWords 0 a_msgWords (4 * s) 4 i = a_msgWords (4 * s + i) := fun i hi => by
    have e := dm_cpi (w := a_inWords) (i := 0) (g := a_msgWords) (j := 4 * s) (m := 4) hi
    rw [Nat.zero_add] at e; exact e
  obtain ⟨m1, m2, m3, m4, m5, m6, m7, m8⟩ := hcm
  have hkc : t = 5 ∨ t = 6 ∨ t = 7 ∨ t = 9 ∨ t = 10 ∨ t = 11 → c < cc := fun h => dm_key_cc hX hL hl hc hn h
  have h04 : ∀ x, x < 4 → ¬ nI x = 4 := fun x hx z => by
    rw [show (4 : Int32) = nI 4 from rfl, nI_eq (by omega) (by omega)] at z; omega
  refine br_f (nI_pos (by omega)) (br_t (nI_lt hs (by omega)) (dm_w_take (by omega) (by omega) ?_))
  by_cases h4 : t ≤ 4
  · obtain ⟨eto, eco⟩ := m1 h4
    refine br_t eto ?_
    by_cases h3 : t < 3
    · refine dm_hr_req (fun u' h => K u' h) hX hL hl hc (by omega) hp hN hgn e1 e2 e3 e4 h3 hP hn eln ety eco (fun z => ⟨fun y => ⟨((m2 z).1 y).1, fun i hi => ?_⟩, (m2 z).2⟩)
      exact (hiw i hi).trans (((m2 z).1 y).2 i hi)
    · by_cases h33 : t = 3
      · subst h33
        exact dm_hr_done (fun u' h => K u' h) hX hL hl hc (by omega) hp hN hgn e1 e2 e3 e4 hP hn eln ety
      · obtain rfl : t = 4 := by omega
        exact dm_hr_copy (fun u' h => K u' h) hX hL hl hc (by omega) hp hN hgn e1 e2 e3 e4 hP hn eln ety (fun i hi => (hiw i hi).trans (m3 rfl i hi))
  · by_cases h8 : t = 8
    · subst h8
      obtain ⟨eto, eco⟩ := m5 rfl
      have hl8 : l < 8 := by omega
      obtain ⟨d1, d2, d3, d4⟩ := dm_g_ack (hL l hl8).1 hc hn
      have hRc : R l < cc := (dm_RF_lt hX.2.1 (l := l) (c := R l) (by omega)).2
      refine br_f (by rw [eto]; exact h04 _ d1) ?_
      rw [eto]
      exact dm_c_ack (fun u' h => K u' h) hX hL hl hRc (by omega) hp hN hgn e1 e2 e3 e4 hg hc rfl hP hn eln ety
    · have h57 : (t = 5 ∨ t = 6 ∨ t = 7) ∨ t = 9 ∨ t = 10 ∨ t = 11 := by omega
      rcases h57 with h57 | rfl | rfl | rfl
      · obtain ⟨eto, eco⟩ := m4 (by omega) (by omega)
        have hcc := hkc (by omega)
        refine br_f (by rw [eto]; exact h04 _ hc) ?_
        rw [eto]
        rcases h57 with rfl | rfl | rfl
        · exact dm_c_fwds (fun u' h => K u' h) hX hL hl hcc (by omega) hp hN hgn e1 e2 e3 e4 hg hP hn eln ety eco
        · exact dm_c_fwdm (fun u' h => K u' h) hX hL hl hcc (by omega) hp hN hgn e1 e2 e3 e4 hg hP hn eln ety eco
        · exact dm_c_inv (fun u' h => K u' h) hX hL hl hcc (by omega) hp hN hgn e1 e2 e3 e4 hg hP hn eln ety eco
      · obtain ⟨eto, einf, eak, ew⟩ := m6 rfl
        have hcc := hkc (by omega)
        refine br_f (by rw [eto]; exact h04 _ hc) ?_
        rw [eto]
        exact dm_c_data (fun u' h => K u' h) hX hL hl hcc (by omega) hp hN hgn e1 e2 e3 e4 hg hP hn eln ety einf eak (fun i hi => (hiw i hi).trans (ew i hi))
      · obtain ⟨eto, einf, eak⟩ := m7 rfl
        have hcc := hkc (by omega)
        refine br_f (by rw [eto]; exact h04 _ hc) ?_
        rw [eto]
        exact dm_c_gran (fun u' h => K u' h) hX hL hl hcc (by omega) hp hN hgn e1 e2 e3 e4 hg hP hn eln ety einf eak
      · have eto := m8 rfl
        have hcc := hkc (by omega)
        refine br_f (by rw [eto]; exact h04 _ hc) ?_
        rw [eto]
        exact dm_c_pack (fun u' h => K u' h) hX hL hl hcc (by omega) hp hN hgn e1 e2 e3 e4 hg hP hn eln ety
end
end
section

theorem dm_tot_phi {n nq : Nat → Nat → Nat} {gr : Nat → Nat} : dm_tot n ≤ dm_phi n nq gr := by
  simp only [dm_tot, dm_phi]; omega
theorem dm_M_Phi {n nq : Nat → Nat → Nat → Nat} {gr : Nat → Nat → Nat} : dm_s8 (fun l => dm_tot (n l)) ≤ dm_Phi n nq gr := by
  simp only [dm_Phi, dm_s8]
  have h0 := dm_tot_phi (n := n 0) (nq := nq 0) (gr := gr 0)
  have h1 := dm_tot_phi (n := n 1) (nq := nq 1) (gr := gr 1)
  have h2 := dm_tot_phi (n := n 2) (nq := nq 2) (gr := gr 2)
  have h3 := dm_tot_phi (n := n 3) (nq := nq 3) (gr := gr 3)
  have h4 := dm_tot_phi (n := n 4) (nq := nq 4) (gr := gr 4)
  have h5 := dm_tot_phi (n := n 5) (nq := nq 5) (gr := gr 5)
  have h6 := dm_tot_phi (n := n 6) (nq := nq 6) (gr := gr 6)
  have h7 := dm_tot_phi (n := n 7) (nq := nq 7) (gr := gr 7)
  omega
/-- with no message under way a line is at rest -/
theorem dm_rest {k gr d nd : Nat → Nat} {ac : Nat → Int} {aw : Nat} {n nq : Nat → Nat → Nat} {R dI dA cu : Nat} (h : dm_L k gr ac d nd aw n nq R dI dA cu) (h0 : dm_tot n = 0) : aw = 0 ∧ ∀ c, c < 4 → k c ≤ 3 := by
  obtain ⟨⟨hA, hT, hB⟩, hq⟩ := h
  simp only [dm_LT] at hT
  simp only [dm_tot] at h0
  have hT2 : dm_s4 (fun c => dm_t2 (k c)) = 0 := by
    have h17 := hT.2.2.2.2.2.2.2.2.2.2.2.2.2.2.2.2.1
    obtain ⟨t1, t2, t3, t4, _⟩ := hT
    have : ¬ dm_s4 gr = 1 := fun z => by have := (h17 z).2; omega
    omega
  have haw : aw = 0 := by have := hT.1; omega
  refine ⟨haw, fun c hc => ?_⟩
  have hnq := hq haw
  simp only [dm_NQ] at hnq
  obtain ⟨x1, x2, x3, x4, x5, _⟩ := hA c hc
  have a0 := dm_s4_le (f := n 0) hc
  have a1 := dm_s4_le (f := n 1) hc
  have a2 := dm_s4_le (f := n 2) hc
  have a11 := dm_s4_le (f := n 11) hc
  have b0 := dm_s4_le (f := nq 0) hc
  have b1 := dm_s4_le (f := nq 1) hc
  have b2 := dm_s4_le (f := nq 2) hc
  have bt : dm_t2 (k c) ≤ dm_s4 (fun c => dm_t2 (k c)) := dm_s4_le (f := fun c => dm_t2 (k c)) hc
  have y0 : dm_w0 (k c) = 0 := by omega
  have y1 : dm_w1 (k c) = 0 := by omega
  have y2 : dm_w2 (k c) = 0 := by omega
  have y3 : dm_w3 (k c) = 0 := by omega
  have y4 : dm_t2 (k c) = 0 := by omega
  simp only [dm_w0] at y0
  simp only [dm_w1] at y1
  simp only [dm_w2] at y2
  simp only [dm_w3] at y3
  simp only [dm_t2] at y4
  split at y0
  · omega
  · split at y1
    · omega
    · split at y2
      · omega
      · split at y3
        · omega
        · split at y4 <;> omega
section
variable {cc lc fc : Nat} {oc ok oa cu : Nat → Nat} {val y_acc y_opn y_fin y_cur : Nat → Int32} {gl N : Nat} {k gr fr d nd : Nat → Nat → Nat} {ac : Nat → Nat → Int} {aw R dI dA pf : Nat → Nat} {n nq : Nat → Nat → Nat → Nat} {V : Nat → Nat → Int32} {M MB QB c l : Nat} {f_msgGetS f_msgGetM f_msgPut f_msgDone f_msgCopyBack f_msgFwdS f_msgFwdM f_msgInv f_msgAck f_msgData f_msgGrant f_msgPutAck f_stFree f_stS f_stE f_stM f_stIS f_stIM f_stSM f_stSI f_stEI f_stMI f_stII f_coreCount f_lineCount f_frameCount f_msgCount f_inType f_inTo f_inLine f_inCore f_inInfo f_inAcks : Int32} {a_opKind a_opAddress a_opOperand a_opResult a_opPerformed a_acc a_closedCount a_nextVictim a_frameLine a_frameState a_frameTarget a_frameAcks a_frameGranted a_frameWords a_memory a_current a_homeOwner a_homeSharers a_homeNextOwner a_homeNextSharers a_homeBusy a_homeAwaits a_queueHead a_queueLength a_queueType a_queueCore a_queueInfo a_queueWords a_msgType a_msgTo a_msgLine a_msgCore a_msgInfo a_msgAcks a_msgWords a_inWords : Nat → Int32} {post : SX → Prop}
theorem dm_rest_all (hX : dm_X cc lc fc k gr ac fr d nd aw n nq R dI dA V oc ok oa pf cu val 0 a_opKind a_opAddress a_opOperand a_opResult a_opPerformed a_acc a_nextVictim a_frameLine a_frameState a_frameTarget a_frameAcks a_frameGranted a_frameWords a_memory a_current a_homeOwner a_homeSharers a_homeNextOwner a_homeNextSharers a_homeBusy a_homeAwaits a_queueHead a_queueLength a_queueType a_queueCore a_queueInfo a_queueWords a_msgType a_msgTo a_msgLine a_msgCore a_msgInfo a_msgAcks a_msgWords) (hL : dm_LL 8 k gr ac d nd aw n nq R dI dA cu) : ∀ l, l < 8 → aw l = 0 ∧ dm_tot (n l) = 0 ∧ ∀ c, c < 4 → k l c ≤ 3 := by
  intro l hl
  have h0 := hX.2.2.2.2.2.1.1
  have h1 := dm_s8_le (f := fun l => dm_tot (n l)) hl
  have h2 : dm_tot (n l) = 0 := by
    have : dm_tot (n l) ≤ dm_s8 (fun l => dm_tot (n l)) := h1
    omega
  exact ⟨(dm_rest (hL l hl) h2).1, h2, (dm_rest (hL l hl) h2).2⟩
/-- with no message under way no operation waits -/
theorem dm_live (hX : dm_X cc lc fc k gr ac fr d nd aw n nq R dI dA V oc ok oa pf cu val 0 a_opKind a_opAddress a_opOperand a_opResult a_opPerformed a_acc a_nextVictim a_frameLine a_frameState a_frameTarget a_frameAcks a_frameGranted a_frameWords a_memory a_current a_homeOwner a_homeSharers a_homeNextOwner a_homeNextSharers a_homeBusy a_homeAwaits a_queueHead a_queueLength a_queueType a_queueCore a_queueInfo a_queueWords a_msgType a_msgTo a_msgLine a_msgCore a_msgInfo a_msgAcks a_msgWords) (hL : dm_LL 8 k gr ac d nd aw n nq R dI dA cu) (hp : ∀ e, e < 4 → dm_PU fc oc ok oa pf k a_frameLine e) : ∀ c, c < 4 → oc c = 1 → pf c = 1 := by
  intro c hc ho
  obtain ⟨o1, o2, o3, o4, o5⟩ := hX.2.2.2.2.2.2.1 c hc
  have hZ := hX.1
  have p := o4 ho
  apply Classical.byContradiction
  intro hf
  have hr := dm_rest_all hX hL
  rcases hp c hc ho (by omega) with h | h | ⟨h1, h2, h3⟩
  · have := (hr (oa c / 4) (by omega)).2.2 c hc; omega
  · have := (hr (oa c / 4) (by omega)).2.2 c hc; omega
  · rcases h3 with h3 | h3
    · obtain ⟨x, hx, hx1⟩ := dm_s8_pos h3
      have h4 := (hr x hx).2.2 c hc
      simp only [dm_lv] at hx1
      split at hx1 <;> omega
    · obtain ⟨x, hx, hk, _⟩ := (hX.2.1.2.2 c 0 p.1 (by omega)).resolve_left (h2 0 (by omega))
      have h4 := (hr x (by omega)).2.2 c hc
      have h5 : dm_sb (k x c) ≤ dm_s8 (fun l => dm_sb (k l c)) := dm_s8_le (f := fun l => dm_sb (k l c)) (by omega)
      rw [h3, dm_sb, if_pos (by omega)] at h5
      omega
end
theorem dm_IB_N {cc lc fc : Nat} {oc ok oa cu : Nat → Nat} {val y_acc y_opn y_fin y_cur : Nat → Int32} {gl N : Nat} {N' : Nat} {u : SX} (hN' : 524 ≤ N') (I : dm_IB cc lc fc oc ok oa cu val y_acc y_opn y_fin y_cur gl N u) : dm_IB cc lc fc oc ok oa cu val y_acc y_opn y_fin y_cur gl N' u := by
  refine dm_IB_el (P := fun u => dm_IB cc lc fc oc ok oa cu val y_acc y_opn y_fin y_cur gl N' u) ?_ I
  intro k gr ac fr d nd aw n nq R dI dA V pf M f_msgGetS f_msgGetM f_msgPut f_msgDone f_msgCopyBack f_msgFwdS f_msgFwdM f_msgInv f_msgAck f_msgData f_msgGrant f_msgPutAck f_stFree f_stS f_stE f_stM f_stIS f_stIM f_stSM f_stSI f_stEI f_stMI f_stII f_coreCount f_lineCount f_frameCount f_msgCount f_inType f_inTo f_inLine f_inCore f_inInfo f_inAcks a_opKind a_opAddress a_opOperand a_opResult a_opPerformed a_acc a_closedCount a_nextVictim a_frameLine a_frameState a_frameTarget a_frameAcks a_frameGranted a_frameWords a_memory a_current a_homeOwner a_homeSharers a_homeNextOwner a_homeNextSharers a_homeBusy a_homeAwaits a_queueHead a_queueLength a_queueType a_queueCore a_queueInfo a_queueWords a_msgType a_msgTo a_msgLine a_msgCore a_msgInfo a_msgAcks a_msgWords a_inWords hX hL hp hN hg e1 e2 e3 e4
  refine dm_IB_mk hX hL hp ?_ hg e1 e2 e3 e4
  have h1 := dm_Phi_le hL
  have h2 := dm_Psi_le (oc := oc) (ok := ok) (oa := oa) (pf := pf) (k := k)
  omega
theorem dm_IB_8 {cc lc fc : Nat} {oc ok oa cu : Nat → Nat} {val y_acc y_opn y_fin y_cur : Nat → Int32} {gl N : Nat} {u : SX} (I : dm_IB cc lc fc oc ok oa cu val y_acc y_opn y_fin y_cur gl N u) : dm_IB cc lc fc oc ok oa cu val y_acc y_opn y_fin y_cur 8 N u := by
  refine dm_IB_el (P := fun u => dm_IB cc lc fc oc ok oa cu val y_acc y_opn y_fin y_cur 8 N u) ?_ I
  intro k gr ac fr d nd aw n nq R dI dA V pf M f_msgGetS f_msgGetM f_msgPut f_msgDone f_msgCopyBack f_msgFwdS f_msgFwdM f_msgInv f_msgAck f_msgData f_msgGrant f_msgPutAck f_stFree f_stS f_stE f_stM f_stIS f_stIM f_stSM f_stSI f_stEI f_stMI f_stII f_coreCount f_lineCount f_frameCount f_msgCount f_inType f_inTo f_inLine f_inCore f_inInfo f_inAcks a_opKind a_opAddress a_opOperand a_opResult a_opPerformed a_acc a_closedCount a_nextVictim a_frameLine a_frameState a_frameTarget a_frameAcks a_frameGranted a_frameWords a_memory a_current a_homeOwner a_homeSharers a_homeNextOwner a_homeNextSharers a_homeBusy a_homeAwaits a_queueHead a_queueLength a_queueType a_queueCore a_queueInfo a_queueWords a_msgType a_msgTo a_msgLine a_msgCore a_msgInfo a_msgAcks a_msgWords a_inWords hX hL hp hN hg e1 e2 e3 e4
  have hZ := hX.1
  exact dm_IB_mk hX hL hp hN (fun e he => Or.inl (hX.2.1.1 8 e (by omega))) e1 e2 e3 e4
def dm_mz (u : SX) : Prop := match u with
  | (f_msgGetS, f_msgGetM, f_msgPut, f_msgDone, f_msgCopyBack, f_msgFwdS, f_msgFwdM, f_msgInv, f_msgAck, f_msgData, f_msgGrant, f_msgPutAck, f_stFree, f_stS, f_stE, f_stM, f_stIS, f_stIM, f_stSM, f_stSI, f_stEI, f_stMI, f_stII, f_coreCount, f_lineCount, f_frameCount, f_msgCount, f_inType, f_inTo, f_inLine, f_inCore, f_inInfo, f_inAcks, a_opKind, a_opAddress, a_opOperand, a_opResult, a_opPerformed, a_acc, a_closedCount, a_nextVictim, a_frameLine, a_frameState, a_frameTarget, a_frameAcks, a_frameGranted, a_frameWords, a_memory, a_current, a_homeOwner, a_homeSharers, a_homeNextOwner, a_homeNextSharers, a_homeBusy, a_homeAwaits, a_queueHead, a_queueLength, a_queueType, a_queueCore, a_queueInfo, a_queueWords, a_msgType, a_msgTo, a_msgLine, a_msgCore, a_msgInfo, a_msgAcks, a_msgWords, a_inWords) => f_msgCount = 0
def dm_HAu (post : SX → Prop) (x1 : Int32) (m : Nat) (x : Int32) (u : SX) : Prop := match u with
  | (f_msgGetS, f_msgGetM, f_msgPut, f_msgDone, f_msgCopyBack, f_msgFwdS, f_msgFwdM, f_msgInv, f_msgAck, f_msgData, f_msgGrant, f_msgPutAck, f_stFree, f_stS, f_stE, f_stM, f_stIS, f_stIM, f_stSM, f_stSI, f_stEI, f_stMI, f_stII, f_coreCount, f_lineCount, f_frameCount, f_msgCount, f_inType, f_inTo, f_inLine, f_inCore, f_inInfo, f_inAcks, a_opKind, a_opAddress, a_opOperand, a_opResult, a_opPerformed, a_acc, a_closedCount, a_nextVictim, a_frameLine, a_frameState, a_frameTarget, a_frameAcks, a_frameGranted, a_frameWords, a_memory, a_current, a_homeOwner, a_homeSharers, a_homeNextOwner, a_homeNextSharers, a_homeBusy, a_homeAwaits, a_queueHead, a_queueLength, a_queueType, a_queueCore, a_queueInfo, a_queueWords, a_msgType, a_msgTo, a_msgLine, a_msgCore, a_msgInfo, a_msgAcks, a_msgWords, a_inWords) => wX_handOverAll_2 post x1 m x f_msgGetS f_msgGetM f_msgPut f_msgDone f_msgCopyBack f_msgFwdS f_msgFwdM f_msgInv f_msgAck f_msgData f_msgGrant f_msgPutAck f_stFree f_stS f_stE f_stM f_stIS f_stIM f_stSM f_stSI f_stEI f_stMI f_stII f_coreCount f_lineCount f_frameCount f_msgCount f_inType f_inTo f_inLine f_inCore f_inInfo f_inAcks a_opKind a_opAddress a_opOperand a_opResult a_opPerformed a_acc a_closedCount a_nextVictim a_frameLine a_frameState a_frameTarget a_frameAcks a_frameGranted a_frameWords a_memory a_current a_homeOwner a_homeSharers a_homeNextOwner a_homeNextSharers a_homeBusy a_homeAwaits a_queueHead a_queueLength a_queueType a_queueCore a_queueInfo a_queueWords a_msgType a_msgTo a_msgLine a_msgCore a_msgInfo a_msgAcks a_msgWords a_inWords
theorem dm_hoa_l {cc lc fc : Nat} {oc ok oa cu : Nat → Nat} {val y_acc y_opn y_fin y_cur : Nat → Int32} {gl : Nat} {post : SX → Prop} {p : Int32} (hg : ∀ e, e < 4 → oc e = 1 → oa e / 4 ≠ gl) (K : ∀ u', dm_IB cc lc fc oc ok oa cu val y_acc y_opn y_fin y_cur gl 524 u' → dm_mz u' → post u') : ∀ N i, N + i ≤ 2000 → ∀ u, dm_IB cc lc fc oc ok oa cu val y_acc y_opn y_fin y_cur gl N u → dm_HAu post p (N + 1) (nI i) u := by
  intro N
  induction N with
  | zero =>
    intro i hi u I
    refine dm_IB_el (P := fun u => dm_HAu post p 1 (nI i) u) ?_ I
    intro k gr ac fr d nd aw n nq R dI dA V pf M f_msgGetS f_msgGetM f_msgPut f_msgDone f_msgCopyBack f_msgFwdS f_msgFwdM f_msgInv f_msgAck f_msgData f_msgGrant f_msgPutAck f_stFree f_stS f_stE f_stM f_stIS f_stIM f_stSM f_stSI f_stEI f_stMI f_stII f_coreCount f_lineCount f_frameCount f_msgCount f_inType f_inTo f_inLine f_inCore f_inInfo f_inAcks a_opKind a_opAddress a_opOperand a_opResult a_opPerformed a_acc a_closedCount a_nextVictim a_frameLine a_frameState a_frameTarget a_frameAcks a_frameGranted a_frameWords a_memory a_current a_homeOwner a_homeSharers a_homeNextOwner a_homeNextSharers a_homeBusy a_homeAwaits a_queueHead a_queueLength a_queueType a_queueCore a_queueInfo a_queueWords a_msgType a_msgTo a_msgLine a_msgCore a_msgInfo a_msgAcks a_msgWords a_inWords hX hL hp hN hgn e1 e2 e3 e4
    have hM0 : M = 0 := by
      have h1 := dm_M_Phi (n := n) (nq := nq) (gr := gr)
      have h2 := hX.2.2.2.2.2.1.1
      omega
    subst hM0
    have q : post (f_msgGetS, f_msgGetM, f_msgPut, f_msgDone, f_msgCopyBack, f_msgFwdS, f_msgFwdM, f_msgInv, f_msgAck, f_msgData, f_msgGrant, f_msgPutAck, f_stFree, f_stS, f_stE, f_stM, f_stIS, f_stIM, f_stSM, f_stSI, f_stEI, f_stMI, f_stII, nI cc, nI lc, nI fc, nI 0, f_inType, f_inTo, f_inLine, f_inCore, f_inInfo, f_inAcks, a_opKind, a_opAddress, a_opOperand, a_opResult, a_opPerformed, a_acc, a_closedCount, a_nextVictim, a_frameLine, a_frameState, a_frameTarget, a_frameAcks, a_frameGranted, a_frameWords, a_memory, a_current, a_homeOwner, a_homeSharers, a_homeNextOwner, a_homeNextSharers, a_homeBusy, a_homeAwaits, a_queueHead, a_queueLength, a_queueType, a_queueCore, a_queueInfo, a_queueWords, a_msgType, a_msgTo, a_msgLine, a_msgCore, a_msgInfo, a_msgAcks, a_msgWords, a_inWords) := K _ (dm_IB_N (Nat.le_refl _) (dm_IB_mk hX hL hp hN hgn e1 e2 e3 e4)) rfl
    exact br_c (fun _ => q) (fun _ => br_t (by decide) q)
  | succ N ih =>
    intro i hi u I
    refine dm_IB_el (P := fun u => dm_HAu post p (N + 1 + 1) (nI i) u) ?_ I
    intro k gr ac fr d nd aw n nq R dI dA V pf M f_msgGetS f_msgGetM f_msgPut f_msgDone f_msgCopyBack f_msgFwdS f_msgFwdM f_msgInv f_msgAck f_msgData f_msgGrant f_msgPutAck f_stFree f_stS f_stE f_stM f_stIS f_stIM f_stSM f_stSI f_stEI f_stMI f_stII f_coreCount f_lineCount f_frameCount f_msgCount f_inType f_inTo f_inLine f_inCore f_inInfo f_inAcks a_opKind a_opAddress a_opOperand a_opResult a_opPerformed a_acc a_closedCount a_nextVictim a_frameLine a_frameState a_frameTarget a_frameAcks a_frameGranted a_frameWords a_memory a_current a_homeOwner a_homeSharers a_homeNextOwner a_homeNextSharers a_homeBusy a_homeAwaits a_queueHead a_queueLength a_queueType a_queueCore a_queueInfo a_queueWords a_msgType a_msgTo a_msgLine a_msgCore a_msgInfo a_msgAcks a_msgWords a_inWords hX hL hp hN hgn e1 e2 e3 e4
    have hM80 := dm_M80 hX hL
    refine br_f (nI_ge (b := 2000) (by omega) (by decide)) ?_
    refine pk_le M 0 (fun h => ?_) (fun h => ?_)
    · have hM0 : M = 0 := by omega
      subst hM0
      exact K _ (dm_IB_N (Nat.le_refl _) (dm_IB_mk hX hL hp hN hgn e1 e2 e3 e4)) rfl
    · refine dm_w_choose h (by omega) (fun s hs => dm_ho (gl := gl) (N := N) (fun u' hI => ?_) hX hL hp hN hgn e1 e2 e3 e4 hg hs)
      exact nm_r (P := fun x => dm_HAu post p (N + 1) x u') (nI_1 i) (ih (i + 1) (by omega) u' hI)
theorem dm_hoa {cc lc fc : Nat} {oc ok oa cu : Nat → Nat} {val y_acc y_opn y_fin y_cur : Nat → Int32} {gl N : Nat} {post : SX → Prop} {p : Int32} {u : SX} (hg : ∀ e, e < 4 → oc e = 1 → oa e / 4 ≠ gl) (I : dm_IB cc lc fc oc ok oa cu val y_acc y_opn y_fin y_cur gl N u) (K : ∀ u', dm_IB cc lc fc oc ok oa cu val y_acc y_opn y_fin y_cur gl 524 u' → dm_mz u' → post u') : wpX_handOverAll post u p := by
  have I2 := dm_IB_N (N' := 524) (Nat.le_refl _) I
  have q := dm_hoa_l hg K 524 0 (by omega) (p := p) u I2
  revert q
  refine dm_el (P := fun u => dm_HAu post p (524 + 1) (nI 0) u → wpX_handOverAll post u p) ?_ u
  intro f_msgGetS f_msgGetM f_msgPut f_msgDone f_msgCopyBack f_msgFwdS f_msgFwdM f_msgInv f_msgAck f_msgData f_msgGrant f_msgPutAck f_stFree f_stS f_stE f_stM f_stIS f_stIM f_stSM f_stSI f_stEI f_stMI f_stII f_coreCount f_lineCount f_frameCount f_msgCount f_inType f_inTo f_inLine f_inCore f_inInfo f_inAcks a_opKind a_opAddress a_opOperand a_opResult a_opPerformed a_acc a_closedCount a_nextVictim a_frameLine a_frameState a_frameTarget a_frameAcks a_frameGranted a_frameWords a_memory a_current a_homeOwner a_homeSharers a_homeNextOwner a_homeNextSharers a_homeBusy a_homeAwaits a_queueHead a_queueLength a_queueType a_queueCore a_queueInfo a_queueWords a_msgType a_msgTo a_msgLine a_msgCore a_msgInfo a_msgAcks a_msgWords a_inWords q
  exact ⟨525, q⟩
end
section
/-- the operations as the reference holds them -/
def dm_RY (oc ok oa : Nat → Nat) (y_isOpen y_kindOf y_addressOf : Nat → Int32) : Prop := ∀ c, c < 4 → y_isOpen c = nI (oc c) ∧ (oc c = 1 → y_kindOf c = nI (ok c) ∧ y_addressOf c = nI (oa c))
def i_Rel (k : Nat) (u : SX) (v : SY) : Prop := match v with
  | (y_coreCount, y_lineCount, y_frameCount, y_value, y_isOpen, y_kindOf, y_addressOf, y_operandOf, y_acc, y_finished, y_current) => ∃ (cc lc fc : Nat) (oc ok oa cu : Nat → Nat), y_coreCount = nI cc ∧ y_lineCount = nI lc ∧ y_frameCount = nI fc ∧ dm_RY oc ok oa y_isOpen y_kindOf y_addressOf ∧ dm_IB cc lc fc oc ok oa cu y_value y_acc y_operandOf y_finished y_current 8 524 u
theorem i_up {k : Nat} {u : SX} {v : SY} (h : i_Rel k u v) : i_Rel (k + 5) u v := h
theorem dm_Rel_el {kk : Nat} {P : SX → SY → Prop} (h : ∀ (cc lc fc : Nat) (oc ok oa cu : Nat → Nat) (k gr : Nat → Nat → Nat) (ac : Nat → Nat → Int) (fr d nd : Nat → Nat → Nat) (aw : Nat → Nat) (n nq : Nat → Nat → Nat → Nat) (R dI dA : Nat → Nat) (V : Nat → Nat → Int32) (pf : Nat → Nat) (M : Nat) (f_msgGetS f_msgGetM f_msgPut f_msgDone f_msgCopyBack f_msgFwdS f_msgFwdM f_msgInv f_msgAck f_msgData f_msgGrant f_msgPutAck f_stFree f_stS f_stE f_stM f_stIS f_stIM f_stSM f_stSI f_stEI f_stMI f_stII f_coreCount f_lineCount f_frameCount f_msgCount f_inType f_inTo f_inLine f_inCore f_inInfo f_inAcks : Int32) (a_opKind a_opAddress a_opOperand a_opResult a_opPerformed a_acc a_closedCount a_nextVictim a_frameLine a_frameState a_frameTarget a_frameAcks a_frameGranted a_frameWords a_memory a_current a_homeOwner a_homeSharers a_homeNextOwner a_homeNextSharers a_homeBusy a_homeAwaits a_queueHead a_queueLength a_queueType a_queueCore a_queueInfo a_queueWords a_msgType a_msgTo a_msgLine a_msgCore a_msgInfo a_msgAcks a_msgWords a_inWords : Nat → Int32) (y_value y_isOpen y_kindOf y_addressOf : Nat → Int32), dm_RY oc ok oa y_isOpen y_kindOf y_addressOf → dm_X cc lc fc k gr ac fr d nd aw n nq R dI dA V oc ok oa pf cu y_value M a_opKind a_opAddress a_opOperand a_opResult a_opPerformed a_acc a_nextVictim a_frameLine a_frameState a_frameTarget a_frameAcks a_frameGranted a_frameWords a_memory a_current a_homeOwner a_homeSharers a_homeNextOwner a_homeNextSharers a_homeBusy a_homeAwaits a_queueHead a_queueLength a_queueType a_queueCore a_queueInfo a_queueWords a_msgType a_msgTo a_msgLine a_msgCore a_msgInfo a_msgAcks a_msgWords → dm_LL 8 k gr ac d nd aw n nq R dI dA cu → (∀ e, e < 4 → dm_PU fc oc ok oa pf k a_frameLine e) → P (f_msgGetS, f_msgGetM, f_msgPut, f_msgDone, f_msgCopyBack, f_msgFwdS, f_msgFwdM, f_msgInv, f_msgAck, f_msgData, f_msgGrant, f_msgPutAck, f_stFree, f_stS, f_stE, f_stM, f_stIS, f_stIM, f_stSM, f_stSI, f_stEI, f_stMI, f_stII, nI cc, nI lc, nI fc, nI M, f_inType, f_inTo, f_inLine, f_inCore, f_inInfo, f_inAcks, a_opKind, a_opAddress, a_opOperand, a_opResult, a_opPerformed, a_acc, a_closedCount, a_nextVictim, a_frameLine, a_frameState, a_frameTarget, a_frameAcks, a_frameGranted, a_frameWords, a_memory, a_current, a_homeOwner, a_homeSharers, a_homeNextOwner, a_homeNextSharers, a_homeBusy, a_homeAwaits, a_queueHead, a_queueLength, a_queueType, a_queueCore, a_queueInfo, a_queueWords, a_msgType, a_msgTo, a_msgLine, a_msgCore, a_msgInfo, a_msgAcks, a_msgWords, a_inWords) (nI cc, nI lc, nI fc, y_value, y_isOpen, y_kindOf, y_addressOf, a_opOperand, a_acc, a_closedCount, a_current)) {u : SX} {v : SY} (I : i_Rel kk u v) : P u v := by
  obtain ⟨y_coreCount, y_lineCount, y_frameCount, y_value, y_isOpen, y_kindOf, y_addressOf, y_operandOf, y_acc, y_finished, y_current⟩ := v
  obtain ⟨cc, lc, fc, oc, ok, oa, cu, rfl, rfl, rfl, hY, I⟩ := I
  refine dm_IB_el (P := fun u => P u (nI cc, nI lc, nI fc, y_value, y_isOpen, y_kindOf, y_addressOf, y_operandOf, y_acc, y_finished, y_current)) ?_ I
  intro k gr ac fr d nd aw n nq R dI dA V pf M f_msgGetS f_msgGetM f_msgPut f_msgDone f_msgCopyBack f_msgFwdS f_msgFwdM f_msgInv f_msgAck f_msgData f_msgGrant f_msgPutAck f_stFree f_stS f_stE f_stM f_stIS f_stIM f_stSM f_stSI f_stEI f_stMI f_stII f_coreCount f_lineCount f_frameCount f_msgCount f_inType f_inTo f_inLine f_inCore f_inInfo f_inAcks a_opKind a_opAddress a_opOperand a_opResult a_opPerformed a_acc a_closedCount a_nextVictim a_frameLine a_frameState a_frameTarget a_frameAcks a_frameGranted a_frameWords a_memory a_current a_homeOwner a_homeSharers a_homeNextOwner a_homeNextSharers a_homeBusy a_homeAwaits a_queueHead a_queueLength a_queueType a_queueCore a_queueInfo a_queueWords a_msgType a_msgTo a_msgLine a_msgCore a_msgInfo a_msgAcks a_msgWords a_inWords hX hL hp hN hg e1 e2 e3 e4
  have q := h cc lc fc oc ok oa cu k gr ac fr d nd aw n nq R dI dA V pf M f_msgGetS f_msgGetM f_msgPut f_msgDone f_msgCopyBack f_msgFwdS f_msgFwdM f_msgInv f_msgAck f_msgData f_msgGrant f_msgPutAck f_stFree f_stS f_stE f_stM f_stIS f_stIM f_stSM f_stSI f_stEI f_stMI f_stII f_coreCount f_lineCount f_frameCount f_msgCount f_inType f_inTo f_inLine f_inCore f_inInfo f_inAcks a_opKind a_opAddress a_opOperand a_opResult a_opPerformed a_acc a_closedCount a_nextVictim a_frameLine a_frameState a_frameTarget a_frameAcks a_frameGranted a_frameWords a_memory a_current a_homeOwner a_homeSharers a_homeNextOwner a_homeNextSharers a_homeBusy a_homeAwaits a_queueHead a_queueLength a_queueType a_queueCore a_queueInfo a_queueWords a_msgType a_msgTo a_msgLine a_msgCore a_msgInfo a_msgAcks a_msgWords a_inWords y_value y_isOpen y_kindOf y_addressOf hY hX hL hp
  rw [e1, e2, e3, e4] at q ⊢
  exact q
section
variable {cc lc fc M : Nat} {k gr fr d nd : Nat → Nat → Nat} {ac : Nat → Nat → Int} {aw R dI dA cu oc ok oa pf : Nat → Nat} {n nq : Nat → Nat → Nat → Nat} {V : Nat → Nat → Int32} {val : Nat → Int32} {f_msgGetS f_msgGetM f_msgPut f_msgDone f_msgCopyBack f_msgFwdS f_msgFwdM f_msgInv f_msgAck f_msgData f_msgGrant f_msgPutAck f_stFree f_stS f_stE f_stM f_stIS f_stIM f_stSM f_stSI f_stEI f_stMI f_stII f_coreCount f_lineCount f_frameCount f_msgCount f_inType f_inTo f_inLine f_inCore f_inInfo f_inAcks : Int32} {a_opKind a_opAddress a_opOperand a_opResult a_opPerformed a_acc a_closedCount a_nextVictim a_frameLine a_frameState a_frameTarget a_frameAcks a_frameGranted a_frameWords a_memory a_current a_homeOwner a_homeSharers a_homeNextOwner a_homeNextSharers a_homeBusy a_homeAwaits a_queueHead a_queueLength a_queueType a_queueCore a_queueInfo a_queueWords a_msgType a_msgTo a_msgLine a_msgCore a_msgInfo a_msgAcks a_msgWords a_inWords : Nat → Int32} {y_value y_isOpen y_kindOf y_addressOf : Nat → Int32} {kk : Nat}
theorem dm_Rel_IB {u : SX} {y_operandOf y_acc y_finished y_current : Nat → Int32} (hY : dm_RY oc ok oa y_isOpen y_kindOf y_addressOf) (I : dm_IB cc lc fc oc ok oa cu y_value y_acc y_operandOf y_finished y_current 8 524 u) : i_Rel kk u (nI cc, nI lc, nI fc, y_value, y_isOpen, y_kindOf, y_addressOf, y_operandOf, y_acc, y_finished, y_current) :=
  ⟨cc, lc, fc, oc, ok, oa, cu, rfl, rfl, rfl, hY, I⟩
theorem dm_IB0 (hX : dm_X cc lc fc k gr ac fr d nd aw n nq R dI dA V oc ok oa pf cu y_value M a_opKind a_opAddress a_opOperand a_opResult a_opPerformed a_acc a_nextVictim a_frameLine a_frameState a_frameTarget a_frameAcks a_frameGranted a_frameWords a_memory a_current a_homeOwner a_homeSharers a_homeNextOwner a_homeNextSharers a_homeBusy a_homeAwaits a_queueHead a_queueLength a_queueType a_queueCore a_queueInfo a_queueWords a_msgType a_msgTo a_msgLine a_msgCore a_msgInfo a_msgAcks a_msgWords) (hL : dm_LL 8 k gr ac d nd aw n nq R dI dA cu) (hp : ∀ e, e < 4 → dm_PU fc oc ok oa pf k a_frameLine e) : dm_IB cc lc fc oc ok oa cu y_value a_acc a_opOperand a_closedCount a_current 8 524 (f_msgGetS, f_msgGetM, f_msgPut, f_msgDone, f_msgCopyBack, f_msgFwdS, f_msgFwdM, f_msgInv, f_msgAck, f_msgData, f_msgGrant, f_msgPutAck, f_stFree, f_stS, f_stE, f_stM, f_stIS, f_stIM, f_stSM, f_stSI, f_stEI, f_stMI, f_stII, nI cc, nI lc, nI fc, nI M, f_inType, f_inTo, f_inLine, f_inCore, f_inInfo, f_inAcks, a_opKind, a_opAddress, a_opOperand, a_opResult, a_opPerformed, a_acc, a_closedCount, a_nextVictim, a_frameLine, a_frameState, a_frameTarget, a_frameAcks, a_frameGranted, a_frameWords, a_memory, a_current, a_homeOwner, a_homeSharers, a_homeNextOwner, a_homeNextSharers, a_homeBusy, a_homeAwaits, a_queueHead, a_queueLength, a_queueType, a_queueCore, a_queueInfo, a_queueWords, a_msgType, a_msgTo, a_msgLine, a_msgCore, a_msgInfo, a_msgAcks, a_msgWords, a_inWords) := by
  have hZ := hX.1
  refine dm_IB_mk hX hL hp ?_ (fun e he => Or.inl (hX.2.1.1 8 e (by omega))) rfl rfl rfl rfl
  have h1 := dm_Phi_le hL
  have h2 := dm_Psi_le (oc := oc) (ok := ok) (oa := oa) (pf := pf) (k := k)
  omega
theorem dm_Rel_mk (hY : dm_RY oc ok oa y_isOpen y_kindOf y_addressOf) (hX : dm_X cc lc fc k gr ac fr d nd aw n nq R dI dA V oc ok oa pf cu y_value M a_opKind a_opAddress a_opOperand a_opResult a_opPerformed a_acc a_nextVictim a_frameLine a_frameState a_frameTarget a_frameAcks a_frameGranted a_frameWords a_memory a_current a_homeOwner a_homeSharers a_homeNextOwner a_homeNextSharers a_homeBusy a_homeAwaits a_queueHead a_queueLength a_queueType a_queueCore a_queueInfo a_queueWords a_msgType a_msgTo a_msgLine a_msgCore a_msgInfo a_msgAcks a_msgWords) (hL : dm_LL 8 k gr ac d nd aw n nq R dI dA cu) (hp : ∀ e, e < 4 → dm_PU fc oc ok oa pf k a_frameLine e) : i_Rel kk (f_msgGetS, f_msgGetM, f_msgPut, f_msgDone, f_msgCopyBack, f_msgFwdS, f_msgFwdM, f_msgInv, f_msgAck, f_msgData, f_msgGrant, f_msgPutAck, f_stFree, f_stS, f_stE, f_stM, f_stIS, f_stIM, f_stSM, f_stSI, f_stEI, f_stMI, f_stII, nI cc, nI lc, nI fc, nI M, f_inType, f_inTo, f_inLine, f_inCore, f_inInfo, f_inAcks, a_opKind, a_opAddress, a_opOperand, a_opResult, a_opPerformed, a_acc, a_closedCount, a_nextVictim, a_frameLine, a_frameState, a_frameTarget, a_frameAcks, a_frameGranted, a_frameWords, a_memory, a_current, a_homeOwner, a_homeSharers, a_homeNextOwner, a_homeNextSharers, a_homeBusy, a_homeAwaits, a_queueHead, a_queueLength, a_queueType, a_queueCore, a_queueInfo, a_queueWords, a_msgType, a_msgTo, a_msgLine, a_msgCore, a_msgInfo, a_msgAcks, a_msgWords, a_inWords) (nI cc, nI lc, nI fc, y_value, y_isOpen, y_kindOf, y_addressOf, a_opOperand, a_acc, a_closedCount, a_current) :=
  dm_Rel_IB hY (dm_IB0 hX hL hp)
end
section
variable {y_coreCount y_lineCount y_frameCount : Int32} {y_value y_isOpen y_kindOf y_addressOf y_operandOf y_acc y_finished y_current : Nat → Int32} {cc lc : Nat} {post : Int32 → Prop} {p0 : Int32} {c : Nat}
theorem dm_y_c1 (hcc : cc ≤ 4) (hc : c < cc) (K : post 1) : wpY_isCore post (nI cc, y_lineCount, y_frameCount, y_value, y_isOpen, y_kindOf, y_addressOf, y_operandOf, y_acc, y_finished, y_current) (nI c) := br_f (nI_pos (by omega)) (br_f (nI_ge hc (by omega)) K)
theorem dm_y_c0 (hcc : cc ≤ 4) (h : ∀ c, c < cc → p0 ≠ nI c) (K : post 0) : wpY_isCore post (nI cc, y_lineCount, y_frameCount, y_value, y_isOpen, y_kindOf, y_addressOf, y_operandOf, y_acc, y_finished, y_current) p0 := by
  refine br_c (fun _ => K) (fun a => br_c (fun _ => K) (fun b => ?_))
  obtain ⟨j, hj, rfl⟩ := nI_of a
  rw [nI_leI (by omega) hj] at b
  exact absurd rfl (h j (by omega))
theorem dm_y_l1 (hcc : lc ≤ 8) (hc : c < lc) (K : post 1) : wpY_isLine post (y_coreCount, nI lc, y_frameCount, y_value, y_isOpen, y_kindOf, y_addressOf, y_operandOf, y_acc, y_finished, y_current) (nI c) := br_f (nI_pos (by omega)) (br_f (nI_ge hc (by omega)) K)
theorem dm_y_l0 (hcc : lc ≤ 8) (h : ∀ c, c < lc → p0 ≠ nI c) (K : post 0) : wpY_isLine post (y_coreCount, nI lc, y_frameCount, y_value, y_isOpen, y_kindOf, y_addressOf, y_operandOf, y_acc, y_finished, y_current) p0 := by
  refine br_c (fun _ => K) (fun a => br_c (fun _ => K) (fun b => ?_))
  obtain ⟨j, hj, rfl⟩ := nI_of a
  rw [nI_leI (by omega) hj] at b
  exact absurd rfl (h j (by omega))
theorem dm_y_a1 (hcc : lc ≤ 8) (hc : c < 4 * lc) (K : post 1) : wpY_isAddress post (y_coreCount, nI lc, y_frameCount, y_value, y_isOpen, y_kindOf, y_addressOf, y_operandOf, y_acc, y_finished, y_current) (nI c) := by
  have e : (4 : Int32) * nI lc = nI (4 * lc) := by rw [show (4 : Int32) = nI 4 from rfl, pk_mul]
  refine br_f (nI_pos (by omega)) ?_
  rw [e]
  exact br_f (nI_ge hc (by omega)) K
theorem dm_y_a0 (hcc : lc ≤ 8) (h : ∀ c, c < 4 * lc → p0 ≠ nI c) (K : post 0) : wpY_isAddress post (y_coreCount, nI lc, y_frameCount, y_value, y_isOpen, y_kindOf, y_addressOf, y_operandOf, y_acc, y_finished, y_current) p0 := by
  have e : (4 : Int32) * nI lc = nI (4 * lc) := by rw [show (4 : Int32) = nI 4 from rfl, pk_mul]
  refine br_c (fun _ => K) (fun a => br_c (fun _ => K) (fun b => ?_))
  obtain ⟨j, hj, rfl⟩ := nI_of a
  rw [e, nI_leI (by omega) hj] at b
  exact absurd rfl (h j (by omega))
theorem dm_y_h0 (hcc : cc ≤ 4) (h : (∀ c, c < cc → p0 ≠ nI c) ∨ ∃ c, c < cc ∧ p0 = nI c ∧ y_isOpen c = 0) (K : post 0) : wpY_hasOpen post (nI cc, y_lineCount, y_frameCount, y_value, y_isOpen, y_kindOf, y_addressOf, y_operandOf, y_acc, y_finished, y_current) p0 := by
  unfold wpY_hasOpen
  rcases h with h | ⟨c, hc, rfl, e⟩
  · exact dm_y_c0 hcc h (br_t rfl K)
  · have hcl : (nI c).toNatClampNeg = c := nI_clamp (by omega)
    exact dm_y_c1 hcc hc (br_f (by decide) ⟨vp_in_nI (by omega) (by omega), br_t (by rw [hcl]; exact e) K⟩)
theorem dm_y_h1 (hcc : cc ≤ 4) (hc : c < cc) (e : y_isOpen c = 1) (K : post 1) : wpY_hasOpen post (nI cc, y_lineCount, y_frameCount, y_value, y_isOpen, y_kindOf, y_addressOf, y_operandOf, y_acc, y_finished, y_current) (nI c) := by
  unfold wpY_hasOpen
  have hcl : (nI c).toNatClampNeg = c := nI_clamp (by omega)
  exact dm_y_c1 hcc hc (br_f (by decide) ⟨vp_in_nI (by omega) (by omega), br_f (by rw [hcl, e]; decide) K⟩)
end
theorem i_vc_cores {k : Nat} {u : SX} {v : SY} (I : i_Rel k u v) (hk : k + 5 ≤ 2563) : wpX_cores (fun r => wpY_cores (fun r' => r' = r ∧ i_Rel (k + 5) u v) v) u := by
  refine dm_Rel_el (P := fun u v => wpX_cores (fun r => wpY_cores (fun r' => r' = r ∧ i_Rel (k + 5) u v) v) u) ?_ I
  intro cc lc fc oc ok oa cu k gr ac fr d nd aw n nq R dI dA V pf M f_msgGetS f_msgGetM f_msgPut f_msgDone f_msgCopyBack f_msgFwdS f_msgFwdM f_msgInv f_msgAck f_msgData f_msgGrant f_msgPutAck f_stFree f_stS f_stE f_stM f_stIS f_stIM f_stSM f_stSI f_stEI f_stMI f_stII f_coreCount f_lineCount f_frameCount f_msgCount f_inType f_inTo f_inLine f_inCore f_inInfo f_inAcks a_opKind a_opAddress a_opOperand a_opResult a_opPerformed a_acc a_closedCount a_nextVictim a_frameLine a_frameState a_frameTarget a_frameAcks a_frameGranted a_frameWords a_memory a_current a_homeOwner a_homeSharers a_homeNextOwner a_homeNextSharers a_homeBusy a_homeAwaits a_queueHead a_queueLength a_queueType a_queueCore a_queueInfo a_queueWords a_msgType a_msgTo a_msgLine a_msgCore a_msgInfo a_msgAcks a_msgWords a_inWords y_value y_isOpen y_kindOf y_addressOf hY hX hL hp
  exact ⟨rfl, dm_Rel_mk hY hX hL hp⟩
theorem i_vc_lines {k : Nat} {u : SX} {v : SY} (I : i_Rel k u v) (hk : k + 5 ≤ 2563) : wpX_lines (fun r => wpY_lines (fun r' => r' = r ∧ i_Rel (k + 5) u v) v) u := by
  refine dm_Rel_el (P := fun u v => wpX_lines (fun r => wpY_lines (fun r' => r' = r ∧ i_Rel (k + 5) u v) v) u) ?_ I
  intro cc lc fc oc ok oa cu k gr ac fr d nd aw n nq R dI dA V pf M f_msgGetS f_msgGetM f_msgPut f_msgDone f_msgCopyBack f_msgFwdS f_msgFwdM f_msgInv f_msgAck f_msgData f_msgGrant f_msgPutAck f_stFree f_stS f_stE f_stM f_stIS f_stIM f_stSM f_stSI f_stEI f_stMI f_stII f_coreCount f_lineCount f_frameCount f_msgCount f_inType f_inTo f_inLine f_inCore f_inInfo f_inAcks a_opKind a_opAddress a_opOperand a_opResult a_opPerformed a_acc a_closedCount a_nextVictim a_frameLine a_frameState a_frameTarget a_frameAcks a_frameGranted a_frameWords a_memory a_current a_homeOwner a_homeSharers a_homeNextOwner a_homeNextSharers a_homeBusy a_homeAwaits a_queueHead a_queueLength a_queueType a_queueCore a_queueInfo a_queueWords a_msgType a_msgTo a_msgLine a_msgCore a_msgInfo a_msgAcks a_msgWords a_inWords y_value y_isOpen y_kindOf y_addressOf hY hX hL hp
  exact ⟨rfl, dm_Rel_mk hY hX hL hp⟩
theorem i_vc_frames {k : Nat} {u : SX} {v : SY} (I : i_Rel k u v) (hk : k + 5 ≤ 2563) : wpX_frames (fun r => wpY_frames (fun r' => r' = r ∧ i_Rel (k + 5) u v) v) u := by
  refine dm_Rel_el (P := fun u v => wpX_frames (fun r => wpY_frames (fun r' => r' = r ∧ i_Rel (k + 5) u v) v) u) ?_ I
  intro cc lc fc oc ok oa cu k gr ac fr d nd aw n nq R dI dA V pf M f_msgGetS f_msgGetM f_msgPut f_msgDone f_msgCopyBack f_msgFwdS f_msgFwdM f_msgInv f_msgAck f_msgData f_msgGrant f_msgPutAck f_stFree f_stS f_stE f_stM f_stIS f_stIM f_stSM f_stSI f_stEI f_stMI f_stII f_coreCount f_lineCount f_frameCount f_msgCount f_inType f_inTo f_inLine f_inCore f_inInfo f_inAcks a_opKind a_opAddress a_opOperand a_opResult a_opPerformed a_acc a_closedCount a_nextVictim a_frameLine a_frameState a_frameTarget a_frameAcks a_frameGranted a_frameWords a_memory a_current a_homeOwner a_homeSharers a_homeNextOwner a_homeNextSharers a_homeBusy a_homeAwaits a_queueHead a_queueLength a_queueType a_queueCore a_queueInfo a_queueWords a_msgType a_msgTo a_msgLine a_msgCore a_msgInfo a_msgAcks a_msgWords a_inWords y_value y_isOpen y_kindOf y_addressOf hY hX hL hp
  exact ⟨rfl, dm_Rel_mk hY hX hL hp⟩
theorem i_vc_homeCurrent {k : Nat} {u : SX} {v : SY} (I : i_Rel k u v) (hk : k + 5 ≤ 2563) (v1 : Int32) : wpX_homeCurrent (fun r => wpY_homeCurrent (fun r' => r' = r ∧ i_Rel (k + 5) u v) v v1) u v1 := by
  refine dm_Rel_el (P := fun u v => wpX_homeCurrent (fun r => wpY_homeCurrent (fun r' => r' = r ∧ i_Rel (k + 5) u v) v v1) u v1) ?_ I
  intro cc lc fc oc ok oa cu k gr ac fr d nd aw n nq R dI dA V pf M f_msgGetS f_msgGetM f_msgPut f_msgDone f_msgCopyBack f_msgFwdS f_msgFwdM f_msgInv f_msgAck f_msgData f_msgGrant f_msgPutAck f_stFree f_stS f_stE f_stM f_stIS f_stIM f_stSM f_stSI f_stEI f_stMI f_stII f_coreCount f_lineCount f_frameCount f_msgCount f_inType f_inTo f_inLine f_inCore f_inInfo f_inAcks a_opKind a_opAddress a_opOperand a_opResult a_opPerformed a_acc a_closedCount a_nextVictim a_frameLine a_frameState a_frameTarget a_frameAcks a_frameGranted a_frameWords a_memory a_current a_homeOwner a_homeSharers a_homeNextOwner a_homeNextSharers a_homeBusy a_homeAwaits a_queueHead a_queueLength a_queueType a_queueCore a_queueInfo a_queueWords a_msgType a_msgTo a_msgLine a_msgCore a_msgInfo a_msgAcks a_msgWords a_inWords y_value y_isOpen y_kindOf y_addressOf hY hX hL hp
  unfold wpX_homeCurrent wpY_homeCurrent
  dsimp only
  have hZ := hX.1
  refine dm_w_isLine hZ.2.2.2.1 (fun l hl e => ?_) (fun h => br_t rfl (dm_y_l0 hZ.2.2.2.1 h (br_t rfl ⟨rfl, dm_Rel_mk hY hX hL hp⟩)))
  subst e
  have hi : vp_in (nI l) 8 := vp_in_nI (by omega) (by omega)
  refine br_f (by decide) ⟨hi, br_c (fun a => dm_y_l1 hZ.2.2.2.1 hl (br_f (by decide) ⟨hi, br_t a ⟨rfl, dm_Rel_mk hY hX hL hp⟩⟩)) (fun a => dm_y_l1 hZ.2.2.2.1 hl (br_f (by decide) ⟨hi, br_f a ⟨rfl, dm_Rel_mk hY hX hL hp⟩⟩))⟩
theorem i_vc_openKind {k : Nat} {u : SX} {v : SY} (I : i_Rel k u v) (hk : k + 5 ≤ 2563) (v1 : Int32) : wpX_openKind (fun r => wpY_openKind (fun r' => r' = r ∧ i_Rel (k + 5) u v) v v1) u v1 := by
  refine dm_Rel_el (P := fun u v => wpX_openKind (fun r => wpY_openKind (fun r' => r' = r ∧ i_Rel (k + 5) u v) v v1) u v1) ?_ I
  intro cc lc fc oc ok oa cu k gr ac fr d nd aw n nq R dI dA V pf M f_msgGetS f_msgGetM f_msgPut f_msgDone f_msgCopyBack f_msgFwdS f_msgFwdM f_msgInv f_msgAck f_msgData f_msgGrant f_msgPutAck f_stFree f_stS f_stE f_stM f_stIS f_stIM f_stSM f_stSI f_stEI f_stMI f_stII f_coreCount f_lineCount f_frameCount f_msgCount f_inType f_inTo f_inLine f_inCore f_inInfo f_inAcks a_opKind a_opAddress a_opOperand a_opResult a_opPerformed a_acc a_closedCount a_nextVictim a_frameLine a_frameState a_frameTarget a_frameAcks a_frameGranted a_frameWords a_memory a_current a_homeOwner a_homeSharers a_homeNextOwner a_homeNextSharers a_homeBusy a_homeAwaits a_queueHead a_queueLength a_queueType a_queueCore a_queueInfo a_queueWords a_msgType a_msgTo a_msgLine a_msgCore a_msgInfo a_msgAcks a_msgWords a_inWords y_value y_isOpen y_kindOf y_addressOf hY hX hL hp
  unfold wpX_openKind wpY_openKind
  dsimp only
  have hZ := hX.1
  refine dm_w_isCore hZ.2.1 (fun c hc e => ?_) (fun h => br_t rfl (dm_y_h0 hZ.2.1 (Or.inl h) (br_t rfl ⟨rfl, dm_Rel_mk hY hX hL hp⟩)))
  subst e
  have hi : vp_in (nI c) 4 := vp_in_nI (by omega) (by omega)
  have hcl : (nI c).toNatClampNeg = c := nI_clamp (by omega)
  obtain ⟨o1, o2, o3, o4, o5⟩ := hX.2.2.2.2.2.2.1 c (by omega)
  obtain ⟨y1, y2⟩ := hY c (by omega)
  refine br_f (by decide) ⟨hi, ?_⟩
  rw [hcl]
  by_cases ho : oc c = 1
  · refine dm_y_h1 hZ.2.1 hc (by rw [y1, ho]; rfl) (br_f (by decide) ⟨hi, ?_⟩)
    rw [(y2 ho).1, (o4 ho).2.2.2.1]
    exact ⟨rfl, dm_Rel_mk hY hX hL hp⟩
  · refine dm_y_h0 hZ.2.1 (Or.inr ⟨c, hc, rfl, by rw [y1, show oc c = 0 from by omega]; rfl⟩) (br_t rfl ?_)
    rw [(o3 (by omega)).1]
    exact ⟨rfl, dm_Rel_mk hY hX hL hp⟩
theorem i_vc_openAddress {k : Nat} {u : SX} {v : SY} (I : i_Rel k u v) (hk : k + 5 ≤ 2563) (v1 : Int32) : wpX_openAddress (fun r => wpY_openAddress (fun r' => r' = r ∧ i_Rel (k + 5) u v) v v1) u v1 := by
  refine dm_Rel_el (P := fun u v => wpX_openAddress (fun r => wpY_openAddress (fun r' => r' = r ∧ i_Rel (k + 5) u v) v v1) u v1) ?_ I
  intro cc lc fc oc ok oa cu k gr ac fr d nd aw n nq R dI dA V pf M f_msgGetS f_msgGetM f_msgPut f_msgDone f_msgCopyBack f_msgFwdS f_msgFwdM f_msgInv f_msgAck f_msgData f_msgGrant f_msgPutAck f_stFree f_stS f_stE f_stM f_stIS f_stIM f_stSM f_stSI f_stEI f_stMI f_stII f_coreCount f_lineCount f_frameCount f_msgCount f_inType f_inTo f_inLine f_inCore f_inInfo f_inAcks a_opKind a_opAddress a_opOperand a_opResult a_opPerformed a_acc a_closedCount a_nextVictim a_frameLine a_frameState a_frameTarget a_frameAcks a_frameGranted a_frameWords a_memory a_current a_homeOwner a_homeSharers a_homeNextOwner a_homeNextSharers a_homeBusy a_homeAwaits a_queueHead a_queueLength a_queueType a_queueCore a_queueInfo a_queueWords a_msgType a_msgTo a_msgLine a_msgCore a_msgInfo a_msgAcks a_msgWords a_inWords y_value y_isOpen y_kindOf y_addressOf hY hX hL hp
  unfold wpX_openAddress wpY_openAddress
  dsimp only
  have hZ := hX.1
  refine dm_w_isCore hZ.2.1 (fun c hc e => ?_) (fun h => br_t rfl (dm_y_h0 hZ.2.1 (Or.inl h) (br_t rfl ⟨rfl, dm_Rel_mk hY hX hL hp⟩)))
  subst e
  have hi : vp_in (nI c) 4 := vp_in_nI (by omega) (by omega)
  have hcl : (nI c).toNatClampNeg = c := nI_clamp (by omega)
  obtain ⟨o1, o2, o3, o4, o5⟩ := hX.2.2.2.2.2.2.1 c (by omega)
  obtain ⟨y1, y2⟩ := hY c (by omega)
  refine br_f (by decide) ⟨hi, ?_⟩
  rw [hcl]
  by_cases ho : oc c = 1
  · refine br_t (by rw [(o4 ho).2.2.2.1]; exact nI_pos' (by have := (o4 ho).2.1; omega)) ⟨hi, dm_y_h1 hZ.2.1 hc (by rw [y1, ho]; rfl) (br_f (by decide) ⟨hi, ?_⟩)⟩
    rw [(y2 ho).2, (o4 ho).2.2.2.2]
    exact ⟨rfl, dm_Rel_mk hY hX hL hp⟩
  · refine br_f (by rw [(o3 (by omega)).1]; decide) (dm_y_h0 hZ.2.1 (Or.inr ⟨c, hc, rfl, by rw [y1, show oc c = 0 from by omega]; rfl⟩) (br_t rfl ?_))
    exact ⟨rfl, dm_Rel_mk hY hX hL hp⟩
theorem i_vc_openOperand {k : Nat} {u : SX} {v : SY} (I : i_Rel k u v) (hk : k + 5 ≤ 2563) (v1 : Int32) : wpX_openOperand (fun r => wpY_openOperand (fun r' => r' = r ∧ i_Rel (k + 5) u v) v v1) u v1 := by
  refine dm_Rel_el (P := fun u v => wpX_openOperand (fun r => wpY_openOperand (fun r' => r' = r ∧ i_Rel (k + 5) u v) v v1) u v1) ?_ I
  intro cc lc fc oc ok oa cu k gr ac fr d nd aw n nq R dI dA V pf M f_msgGetS f_msgGetM f_msgPut f_msgDone f_msgCopyBack f_msgFwdS f_msgFwdM f_msgInv f_msgAck f_msgData f_msgGrant f_msgPutAck f_stFree f_stS f_stE f_stM f_stIS f_stIM f_stSM f_stSI f_stEI f_stMI f_stII f_coreCount f_lineCount f_frameCount f_msgCount f_inType f_inTo f_inLine f_inCore f_inInfo f_inAcks a_opKind a_opAddress a_opOperand a_opResult a_opPerformed a_acc a_closedCount a_nextVictim a_frameLine a_frameState a_frameTarget a_frameAcks a_frameGranted a_frameWords a_memory a_current a_homeOwner a_homeSharers a_homeNextOwner a_homeNextSharers a_homeBusy a_homeAwaits a_queueHead a_queueLength a_queueType a_queueCore a_queueInfo a_queueWords a_msgType a_msgTo a_msgLine a_msgCore a_msgInfo a_msgAcks a_msgWords a_inWords y_value y_isOpen y_kindOf y_addressOf hY hX hL hp
  unfold wpX_openOperand wpY_openOperand
  dsimp only
  have hZ := hX.1
  refine dm_w_isCore hZ.2.1 (fun c hc e => ?_) (fun h => br_t rfl (dm_y_h0 hZ.2.1 (Or.inl h) (br_t rfl ⟨rfl, dm_Rel_mk hY hX hL hp⟩)))
  subst e
  have hi : vp_in (nI c) 4 := vp_in_nI (by omega) (by omega)
  have hcl : (nI c).toNatClampNeg = c := nI_clamp (by omega)
  obtain ⟨o1, o2, o3, o4, o5⟩ := hX.2.2.2.2.2.2.1 c (by omega)
  obtain ⟨y1, y2⟩ := hY c (by omega)
  refine br_f (by decide) ⟨hi, ?_⟩
  rw [hcl]
  by_cases ho : oc c = 1
  · refine br_t (by rw [(o4 ho).2.2.2.1]; exact nI_pos' (by have := (o4 ho).2.1; omega)) ⟨hi, dm_y_h1 hZ.2.1 hc (by rw [y1, ho]; rfl) (br_f (by decide) ⟨hi, ?_⟩)⟩
    exact ⟨rfl, dm_Rel_mk hY hX hL hp⟩
  · refine br_f (by rw [(o3 (by omega)).1]; decide) (dm_y_h0 hZ.2.1 (Or.inr ⟨c, hc, rfl, by rw [y1, show oc c = 0 from by omega]; rfl⟩) (br_t rfl ?_))
    exact ⟨rfl, dm_Rel_mk hY hX hL hp⟩
theorem i_vc_accumulator {k : Nat} {u : SX} {v : SY} (I : i_Rel k u v) (hk : k + 5 ≤ 2563) (v1 : Int32) : wpX_accumulator (fun r => wpY_accumulator (fun r' => r' = r ∧ i_Rel (k + 5) u v) v v1) u v1 := by
  refine dm_Rel_el (P := fun u v => wpX_accumulator (fun r => wpY_accumulator (fun r' => r' = r ∧ i_Rel (k + 5) u v) v v1) u v1) ?_ I
  intro cc lc fc oc ok oa cu k gr ac fr d nd aw n nq R dI dA V pf M f_msgGetS f_msgGetM f_msgPut f_msgDone f_msgCopyBack f_msgFwdS f_msgFwdM f_msgInv f_msgAck f_msgData f_msgGrant f_msgPutAck f_stFree f_stS f_stE f_stM f_stIS f_stIM f_stSM f_stSI f_stEI f_stMI f_stII f_coreCount f_lineCount f_frameCount f_msgCount f_inType f_inTo f_inLine f_inCore f_inInfo f_inAcks a_opKind a_opAddress a_opOperand a_opResult a_opPerformed a_acc a_closedCount a_nextVictim a_frameLine a_frameState a_frameTarget a_frameAcks a_frameGranted a_frameWords a_memory a_current a_homeOwner a_homeSharers a_homeNextOwner a_homeNextSharers a_homeBusy a_homeAwaits a_queueHead a_queueLength a_queueType a_queueCore a_queueInfo a_queueWords a_msgType a_msgTo a_msgLine a_msgCore a_msgInfo a_msgAcks a_msgWords a_inWords y_value y_isOpen y_kindOf y_addressOf hY hX hL hp
  unfold wpX_accumulator wpY_accumulator
  dsimp only
  have hZ := hX.1
  refine dm_w_isCore hZ.2.1 (fun c hc e => ?_) (fun h => br_t rfl (dm_y_c0 hZ.2.1 h (br_t rfl ⟨rfl, dm_Rel_mk hY hX hL hp⟩)))
  subst e
  have hi : vp_in (nI c) 4 := vp_in_nI (by omega) (by omega)
  exact br_f (by decide) ⟨hi, dm_y_c1 hZ.2.1 hc (br_f (by decide) ⟨hi, rfl, dm_Rel_mk hY hX hL hp⟩)⟩
theorem i_vc_closed {k : Nat} {u : SX} {v : SY} (I : i_Rel k u v) (hk : k + 5 ≤ 2563) (v1 : Int32) : wpX_closed (fun r => wpY_closed (fun r' => r' = r ∧ i_Rel (k + 5) u v) v v1) u v1 := by
  refine dm_Rel_el (P := fun u v => wpX_closed (fun r => wpY_closed (fun r' => r' = r ∧ i_Rel (k + 5) u v) v v1) u v1) ?_ I
  intro cc lc fc oc ok oa cu k gr ac fr d nd aw n nq R dI dA V pf M f_msgGetS f_msgGetM f_msgPut f_msgDone f_msgCopyBack f_msgFwdS f_msgFwdM f_msgInv f_msgAck f_msgData f_msgGrant f_msgPutAck f_stFree f_stS f_stE f_stM f_stIS f_stIM f_stSM f_stSI f_stEI f_stMI f_stII f_coreCount f_lineCount f_frameCount f_msgCount f_inType f_inTo f_inLine f_inCore f_inInfo f_inAcks a_opKind a_opAddress a_opOperand a_opResult a_opPerformed a_acc a_closedCount a_nextVictim a_frameLine a_frameState a_frameTarget a_frameAcks a_frameGranted a_frameWords a_memory a_current a_homeOwner a_homeSharers a_homeNextOwner a_homeNextSharers a_homeBusy a_homeAwaits a_queueHead a_queueLength a_queueType a_queueCore a_queueInfo a_queueWords a_msgType a_msgTo a_msgLine a_msgCore a_msgInfo a_msgAcks a_msgWords a_inWords y_value y_isOpen y_kindOf y_addressOf hY hX hL hp
  unfold wpX_closed wpY_closed
  dsimp only
  have hZ := hX.1
  refine dm_w_isCore hZ.2.1 (fun c hc e => ?_) (fun h => br_t rfl (dm_y_c0 hZ.2.1 h (br_t rfl ⟨rfl, dm_Rel_mk hY hX hL hp⟩)))
  subst e
  have hi : vp_in (nI c) 4 := vp_in_nI (by omega) (by omega)
  exact br_f (by decide) ⟨hi, dm_y_c1 hZ.2.1 hc (br_f (by decide) ⟨hi, rfl, dm_Rel_mk hY hX hL hp⟩)⟩
end
section

theorem dm_hg8 {cc lc : Nat} {oc ok oa pf : Nat → Nat} {kd ad pe : Nat → Int32} (hlc : lc ≤ 8) (h : dm_RO cc lc oc ok oa pf kd ad pe) : ∀ e, e < 4 → oc e = 1 → oa e / 4 ≠ 8 := fun e he ho z => by
  have := ((h e he).2.2.2.1 ho).2.2.1
  omega
section
variable {cc lc fc M : Nat} {k gr fr d nd : Nat → Nat → Nat} {ac : Nat → Nat → Int} {aw R dI dA cu oc ok oa pf : Nat → Nat} {n nq : Nat → Nat → Nat → Nat} {V : Nat → Nat → Int32} {val : Nat → Int32} {f_msgGetS f_msgGetM f_msgPut f_msgDone f_msgCopyBack f_msgFwdS f_msgFwdM f_msgInv f_msgAck f_msgData f_msgGrant f_msgPutAck f_stFree f_stS f_stE f_stM f_stIS f_stIM f_stSM f_stSI f_stEI f_stMI f_stII f_coreCount f_lineCount f_frameCount f_msgCount f_inType f_inTo f_inLine f_inCore f_inInfo f_inAcks : Int32} {a_opKind a_opAddress a_opOperand a_opResult a_opPerformed a_acc a_closedCount a_nextVictim a_frameLine a_frameState a_frameTarget a_frameAcks a_frameGranted a_frameWords a_memory a_current a_homeOwner a_homeSharers a_homeNextOwner a_homeNextSharers a_homeBusy a_homeAwaits a_queueHead a_queueLength a_queueType a_queueCore a_queueInfo a_queueWords a_msgType a_msgTo a_msgLine a_msgCore a_msgInfo a_msgAcks a_msgWords a_inWords : Nat → Int32} {l c : Nat}
theorem dm_PU_give (hl : l < 8) (hk1 : 1 ≤ k l c) (hk3 : k l c ≤ 3) (hn : oc c = 1 → pf c = 0 → oa c / 4 ≠ l) (hp : ∀ e, e < 4 → dm_PU fc oc ok oa pf k a_frameLine e) : ∀ e, e < 4 → dm_PU fc oc ok oa pf (dm_f2 k l c (k l c + 6)) a_frameLine e := by
  intro e he
  by_cases g : e = c
  · subst g
    intro h1 h2
    have hne := hn h1 h2
    have ee := dm_s8_g (fun g : Nat → Nat => dm_lv (g e)) (f := k) (v := dm_fu (k l) e (k l e + 6)) hl
    simp only [dm_fs] at ee
    have ee' : dm_s8 (fun x => dm_lv (dm_f2 k l e (k l e + 6) x e)) + dm_lv (k l e) = dm_s8 (fun x => dm_lv (k x e)) + dm_lv (k l e + 6) := ee
    have l1 : dm_lv (k l e + 6) = 1 := by rw [dm_lv, if_pos (by omega)]
    have l0 : dm_lv (k l e) = 0 := by rw [dm_lv, if_neg (by omega)]
    rw [dm_f2n hne]
    rcases hp e he h1 h2 with q | q | ⟨q1, q2, q3⟩
    · exact Or.inl q
    · exact Or.inr (Or.inl q)
    · exact Or.inr (Or.inr ⟨q1, q2, Or.inl (by omega)⟩)
  · exact dm_PU_ne g (fun _ _ => rfl) (hp e he)
theorem dm_PU_upg (hl : l < 8) (hk1 : k l c = 1) (hp : ∀ e, e < 4 → dm_PU fc oc ok oa pf k a_frameLine e) : ∀ e, e < 4 → dm_PU fc oc ok oa pf (dm_f2 k l c 6) a_frameLine e := by
  intro e he
  by_cases g : e = c
  · subst g
    intro h1 h2
    have q := hp e he h1 h2
    have hne : oa e / 4 ≠ l := fun z => by rw [z] at q; omega
    have ee := dm_s8_g (fun g : Nat → Nat => dm_lv (g e)) (f := k) (v := dm_fu (k l) e 6) hl
    simp only [dm_fs] at ee
    have ee' : dm_s8 (fun x => dm_lv (dm_f2 k l e 6 x e)) + dm_lv (k l e) = dm_s8 (fun x => dm_lv (k x e)) + dm_lv 6 := ee
    have l1 : dm_lv 6 = 0 := rfl
    have l0 : dm_lv (k l e) = 0 := by rw [hk1]; rfl
    have sb : dm_sb (k l e) ≤ dm_s8 (fun x => dm_sb (k x e)) := dm_s8_le (f := fun x => dm_sb (k x e)) hl
    have sb1 : dm_sb (k l e) = 1 := by rw [hk1]; rfl
    rw [dm_f2n hne]
    rcases q with q | q | ⟨q1, q2, q3⟩
    · exact Or.inl q
    · exact Or.inr (Or.inl q)
    · exact Or.inr (Or.inr ⟨q1, q2, Or.inl (by omega)⟩)
  · exact dm_PU_ne g (fun _ _ => rfl) (hp e he)
theorem dm_PU_fetch {f v : Nat} {FL' : Nat → Int32} (hfc : fc ≤ 4) (hf : f < fc) (e0 : a_frameLine (4 * c + f) = -1) (hw : ∀ j, j ≠ 4 * c + f → FL' j = a_frameLine j) (hk : k l c = 0) (hp : ∀ e, e < 4 → dm_PU fc oc ok oa pf k a_frameLine e) : ∀ e, e < 4 → dm_PU fc oc ok oa pf (dm_f2 k l c v) FL' e := by
  intro e he
  by_cases g : e = c
  · subst g
    intro h1 h2
    have q := hp e he h1 h2
    have q' : (k (oa e / 4) e = 4 ∨ k (oa e / 4) e = 5 ∨ 7 ≤ k (oa e / 4) e) ∨ (k (oa e / 4) e = 6 ∧ ok e ≠ 0) := by
      rcases q with q | q | ⟨_, q2, _⟩
      · exact Or.inl q
      · exact Or.inr q
      · exact absurd e0 (q2 f hf)
    have hne : oa e / 4 ≠ l := fun z => by rw [z, hk] at q'; omega
    rw [dm_f2n hne]
    rcases q' with q | q
    · exact Or.inl q
    · exact Or.inr (Or.inl q)
  · exact dm_PU_ne g (fun f' hf' => hw _ (by omega)) (hp e he)
end
theorem i_vc_deliver {k : Nat} {u : SX} {v : SY} (I : i_Rel k u v) (hk : k + 5 ≤ 2563) (v1 : Int32) : wpX_deliver (fun u' => wpY_deliver (fun v' => i_Rel (k + 5) u' v') v v1) u v1 := by
  refine dm_Rel_el (P := fun u v => wpX_deliver (fun u' => wpY_deliver (fun v' => i_Rel (k + 5) u' v') v v1) u v1) ?_ I
  intro cc lc fc oc ok oa cu k gr ac fr d nd aw n nq R dI dA V pf M f_msgGetS f_msgGetM f_msgPut f_msgDone f_msgCopyBack f_msgFwdS f_msgFwdM f_msgInv f_msgAck f_msgData f_msgGrant f_msgPutAck f_stFree f_stS f_stE f_stM f_stIS f_stIM f_stSM f_stSI f_stEI f_stMI f_stII f_coreCount f_lineCount f_frameCount f_msgCount f_inType f_inTo f_inLine f_inCore f_inInfo f_inAcks a_opKind a_opAddress a_opOperand a_opResult a_opPerformed a_acc a_closedCount a_nextVictim a_frameLine a_frameState a_frameTarget a_frameAcks a_frameGranted a_frameWords a_memory a_current a_homeOwner a_homeSharers a_homeNextOwner a_homeNextSharers a_homeBusy a_homeAwaits a_queueHead a_queueLength a_queueType a_queueCore a_queueInfo a_queueWords a_msgType a_msgTo a_msgLine a_msgCore a_msgInfo a_msgAcks a_msgWords a_inWords y_value y_isOpen y_kindOf y_addressOf hY hX hL hp
  have hZ := hX.1
  have hM80 := dm_M80 hX hL
  unfold wpX_deliver wpY_deliver
  dsimp only
  refine pk_le M 0 (fun h => dm_Rel_mk hY hX hL hp) (fun h => ?_)
  refine dm_w_choose h (by omega) (fun s hs => dm_ho (gl := 8) (N := 523) (y_acc := a_acc) (y_opn := a_opOperand) (y_fin := a_closedCount) (y_cur := a_current) (fun u' hI => dm_Rel_IB hY (dm_IB_N (Nat.le_refl _) hI)) hX hL hp ?_ (fun e he => Or.inl (hX.2.1.1 8 e (by omega))) rfl rfl rfl rfl (dm_hg8 hZ.2.2.2.1 hX.2.2.2.2.2.2.1) hs)
  have h1 := dm_Phi_le hL
  have h2 := dm_Psi_le (oc := oc) (ok := ok) (oa := oa) (pf := pf) (k := k)
  omega
theorem i_vc_drain {k : Nat} {u : SX} {v : SY} (I : i_Rel k u v) (hk : k + 5 ≤ 2563) (v1 : Int32) : wpX_drain (fun u' => wpY_drain (fun v' => i_Rel (k + 5) u' v') v v1) u v1 := by
  refine dm_Rel_el (P := fun u v => wpX_drain (fun u' => wpY_drain (fun v' => i_Rel (k + 5) u' v') v v1) u v1) ?_ I
  intro cc lc fc oc ok oa cu k gr ac fr d nd aw n nq R dI dA V pf M f_msgGetS f_msgGetM f_msgPut f_msgDone f_msgCopyBack f_msgFwdS f_msgFwdM f_msgInv f_msgAck f_msgData f_msgGrant f_msgPutAck f_stFree f_stS f_stE f_stM f_stIS f_stIM f_stSM f_stSI f_stEI f_stMI f_stII f_coreCount f_lineCount f_frameCount f_msgCount f_inType f_inTo f_inLine f_inCore f_inInfo f_inAcks a_opKind a_opAddress a_opOperand a_opResult a_opPerformed a_acc a_closedCount a_nextVictim a_frameLine a_frameState a_frameTarget a_frameAcks a_frameGranted a_frameWords a_memory a_current a_homeOwner a_homeSharers a_homeNextOwner a_homeNextSharers a_homeBusy a_homeAwaits a_queueHead a_queueLength a_queueType a_queueCore a_queueInfo a_queueWords a_msgType a_msgTo a_msgLine a_msgCore a_msgInfo a_msgAcks a_msgWords a_inWords y_value y_isOpen y_kindOf y_addressOf hY hX hL hp
  have hZ := hX.1
  unfold wpX_drain wpY_drain
  dsimp only
  exact dm_hoa (dm_hg8 hZ.2.2.2.1 hX.2.2.2.2.2.2.1) (dm_IB0 hX hL hp) (fun u' hI _ => dm_Rel_IB hY hI)
section
variable {cc lc fc M : Nat} {k gr fr d nd : Nat → Nat → Nat} {ac : Nat → Nat → Int} {aw R dI dA cu oc ok oa pf : Nat → Nat} {n nq : Nat → Nat → Nat → Nat} {V : Nat → Nat → Int32} {val : Nat → Int32} {f_msgGetS f_msgGetM f_msgPut f_msgDone f_msgCopyBack f_msgFwdS f_msgFwdM f_msgInv f_msgAck f_msgData f_msgGrant f_msgPutAck f_stFree f_stS f_stE f_stM f_stIS f_stIM f_stSM f_stSI f_stEI f_stMI f_stII f_coreCount f_lineCount f_frameCount f_msgCount f_inType f_inTo f_inLine f_inCore f_inInfo f_inAcks : Int32} {a_opKind a_opAddress a_opOperand a_opResult a_opPerformed a_acc a_closedCount a_nextVictim a_frameLine a_frameState a_frameTarget a_frameAcks a_frameGranted a_frameWords a_memory a_current a_homeOwner a_homeSharers a_homeNextOwner a_homeNextSharers a_homeBusy a_homeAwaits a_queueHead a_queueLength a_queueType a_queueCore a_queueInfo a_queueWords a_msgType a_msgTo a_msgLine a_msgCore a_msgInfo a_msgAcks a_msgWords a_inWords : Nat → Int32} {post : Int32 → SX → Prop} {x1 x2 : Int32}
theorem dm_dt69 (hM : M ≤ 80) (Kh : ∀ x5, (x5 = -1 ∨ ∃ s, s < M ∧ x5 = nI s) → wX_deliverTo_112 post x5 f_msgGetS f_msgGetM f_msgPut f_msgDone f_msgCopyBack f_msgFwdS f_msgFwdM f_msgInv f_msgAck f_msgData f_msgGrant f_msgPutAck f_stFree f_stS f_stE f_stM f_stIS f_stIM f_stSM f_stSI f_stEI f_stMI f_stII (nI cc) (nI lc) (nI fc) (nI M) f_inType f_inTo f_inLine f_inCore f_inInfo f_inAcks a_opKind a_opAddress a_opOperand a_opResult a_opPerformed a_acc a_closedCount a_nextVictim a_frameLine a_frameState a_frameTarget a_frameAcks a_frameGranted a_frameWords a_memory a_current a_homeOwner a_homeSharers a_homeNextOwner a_homeNextSharers a_homeBusy a_homeAwaits a_queueHead a_queueLength a_queueType a_queueCore a_queueInfo a_queueWords a_msgType a_msgTo a_msgLine a_msgCore a_msgInfo a_msgAcks a_msgWords a_inWords) : ∀ j i, i + j = M → ∀ x4, wX_deliverTo_69 post x1 f_msgGetS f_msgGetM f_msgPut f_msgDone f_msgCopyBack f_msgFwdS f_msgFwdM f_msgInv f_msgAck f_msgData f_msgGrant f_msgPutAck f_stFree f_stS f_stE f_stM f_stIS f_stIM f_stSM f_stSI f_stEI f_stMI f_stII (nI cc) (nI lc) (nI fc) (nI M) f_inType f_inTo f_inLine f_inCore f_inInfo f_inAcks a_opKind a_opAddress a_opOperand a_opResult a_opPerformed a_acc a_closedCount a_nextVictim a_frameLine a_frameState a_frameTarget a_frameAcks a_frameGranted a_frameWords a_memory a_current a_homeOwner a_homeSharers a_homeNextOwner a_homeNextSharers a_homeBusy a_homeAwaits a_queueHead a_queueLength a_queueType a_queueCore a_queueInfo a_queueWords a_msgType a_msgTo a_msgLine a_msgCore a_msgInfo a_msgAcks a_msgWords a_inWords (j + 2) x4 (-1) (nI i) := by
  intro j
  induction j with
  | zero =>
    intro i hi x4
    obtain rfl : i = M := by omega
    exact br_t (nI_le (Nat.le_refl _) (by omega)) (Kh _ (Or.inl rfl))
  | succ j ih =>
    intro i hi x4
    have hv : vp_in (nI i) 128 := vp_in_nI (by omega) (by omega)
    refine br_f (nI_ge (by omega) (by omega)) (br_f (by decide) ⟨hv, br_c (fun _ => br_c (fun _ => nm_e (nm_r (nI_1 i) ?_)) (fun _ => nm_e (nm_r (nI_1 i) (ih (i + 1) (by omega) _)))) (fun _ => nm_r (nI_1 i) (ih (i + 1) (by omega) _))⟩)
    exact br_c (fun _ => Kh _ (Or.inr ⟨i, by omega, rfl⟩)) (fun _ => br_t (nI_pos' (by omega)) (Kh _ (Or.inr ⟨i, by omega, rfl⟩)))
theorem dm_dt20 (hM : M ≤ 80) (K0 : post 0 (f_msgGetS, f_msgGetM, f_msgPut, f_msgDone, f_msgCopyBack, f_msgFwdS, f_msgFwdM, f_msgInv, f_msgAck, f_msgData, f_msgGrant, f_msgPutAck, f_stFree, f_stS, f_stE, f_stM, f_stIS, f_stIM, f_stSM, f_stSI, f_stEI, f_stMI, f_stII, nI cc, nI lc, nI fc, nI M, f_inType, f_inTo, f_inLine, f_inCore, f_inInfo, f_inAcks, a_opKind, a_opAddress, a_opOperand, a_opResult, a_opPerformed, a_acc, a_closedCount, a_nextVictim, a_frameLine, a_frameState, a_frameTarget, a_frameAcks, a_frameGranted, a_frameWords, a_memory, a_current, a_homeOwner, a_homeSharers, a_homeNextOwner, a_homeNextSharers, a_homeBusy, a_homeAwaits, a_queueHead, a_queueLength, a_queueType, a_queueCore, a_queueInfo, a_queueWords, a_msgType, a_msgTo, a_msgLine, a_msgCore, a_msgInfo, a_msgAcks, a_msgWords, a_inWords)) (Kh : ∀ x5, (x5 = -1 ∨ ∃ s, s < M ∧ x5 = nI s) → wX_deliverTo_112 post x5 f_msgGetS f_msgGetM f_msgPut f_msgDone f_msgCopyBack f_msgFwdS f_msgFwdM f_msgInv f_msgAck f_msgData f_msgGrant f_msgPutAck f_stFree f_stS f_stE f_stM f_stIS f_stIM f_stSM f_stSI f_stEI f_stMI f_stII (nI cc) (nI lc) (nI fc) (nI M) f_inType f_inTo f_inLine f_inCore f_inInfo f_inAcks a_opKind a_opAddress a_opOperand a_opResult a_opPerformed a_acc a_closedCount a_nextVictim a_frameLine a_frameState a_frameTarget a_frameAcks a_frameGranted a_frameWords a_memory a_current a_homeOwner a_homeSharers a_homeNextOwner a_homeNextSharers a_homeBusy a_homeAwaits a_queueHead a_queueLength a_queueType a_queueCore a_queueInfo a_queueWords a_msgType a_msgTo a_msgLine a_msgCore a_msgInfo a_msgAcks a_msgWords a_inWords) : ∀ j i e, i + j = M → e ≤ i → wX_deliverTo_20 post x1 x2 f_msgGetS f_msgGetM f_msgPut f_msgDone f_msgCopyBack f_msgFwdS f_msgFwdM f_msgInv f_msgAck f_msgData f_msgGrant f_msgPutAck f_stFree f_stS f_stE f_stM f_stIS f_stIM f_stSM f_stSI f_stEI f_stMI f_stII (nI cc) (nI lc) (nI fc) (nI M) f_inType f_inTo f_inLine f_inCore f_inInfo f_inAcks a_opKind a_opAddress a_opOperand a_opResult a_opPerformed a_acc a_closedCount a_nextVictim a_frameLine a_frameState a_frameTarget a_frameAcks a_frameGranted a_frameWords a_memory a_current a_homeOwner a_homeSharers a_homeNextOwner a_homeNextSharers a_homeBusy a_homeAwaits a_queueHead a_queueLength a_queueType a_queueCore a_queueInfo a_queueWords a_msgType a_msgTo a_msgLine a_msgCore a_msgInfo a_msgAcks a_msgWords a_inWords (j + 1) (nI e) (nI i) := by
  intro j
  induction j with
  | zero =>
    intro i e hi he
    obtain rfl : i = M := by omega
    refine br_t (nI_le (Nat.le_refl _) (by omega)) (pk_eq e 0 (fun _ => K0) (fun h => ?_))
    exact dm_w_choose (by omega) (by omega) (fun s hs => ⟨i + 2, dm_dt69 hM Kh i 0 (by omega) _⟩)
  | succ j ih =>
    intro i e hi he
    have hv : vp_in (nI i) 128 := vp_in_nI (by omega) (by omega)
    exact br_f (nI_ge (by omega) (by omega)) ⟨hv, br_c (fun _ => nm_r (nI_1 e) (nm_r (nI_1 i) (ih (i + 1) (e + 1) (by omega) (by omega)))) (fun _ => nm_r (nI_1 i) (ih (i + 1) e (by omega) (by omega)))⟩
end
section
variable {y_coreCount y_lineCount y_frameCount : Int32} {y_value y_isOpen y_kindOf y_addressOf y_operandOf y_acc y_finished y_current : Nat → Int32} {cc lc : Nat} {post : Int32 → Prop} {p0 p1 p2 : Int32} {c l : Nat}
theorem dm_y_dt0 (hcc : cc ≤ 4) (h : p0 = 4 ∨ ∃ c, c < cc ∧ p0 = nI c) (K : post 0) : wpY_deliverTo post (nI cc, y_lineCount, y_frameCount, y_value, y_isOpen, y_kindOf, y_addressOf, y_operandOf, y_acc, y_finished, y_current) p0 p1 := by
  unfold wpY_deliverTo
  rcases h with rfl | ⟨c, hc, rfl⟩
  · refine dm_y_c0 hcc (fun c hc z => ?_) (br_t rfl (br_t rfl K))
    rw [show (4 : Int32) = nI 4 from rfl, nI_eq (by omega) (by omega)] at z; omega
  · exact dm_y_c1 hcc hc (br_f (by decide) K)
theorem dm_y_dt1 (hcc : cc ≤ 4) (h4 : ¬ p0 = 4) (h : ∀ c, c < cc → p0 ≠ nI c) (K : post 1) : wpY_deliverTo post (nI cc, y_lineCount, y_frameCount, y_value, y_isOpen, y_kindOf, y_addressOf, y_operandOf, y_acc, y_finished, y_current) p0 p1 := by
  unfold wpY_deliverTo
  exact dm_y_c0 hcc h (br_t rfl (br_f h4 K))
theorem dm_y_ev0 (hcc : cc ≤ 4) (hlc : lc ≤ 8) (hc : c < cc) (hl : l < lc) (K : post 0) : wpY_evict post (nI cc, nI lc, y_frameCount, y_value, y_isOpen, y_kindOf, y_addressOf, y_operandOf, y_acc, y_finished, y_current) (nI c) (nI l) := by
  unfold wpY_evict
  refine dm_y_c1 hcc hc (br_f (by decide) ?_)
  exact dm_y_l1 hlc hl (br_f (by decide) K)
theorem dm_y_ev1 (hcc : cc ≤ 4) (hlc : lc ≤ 8) (h : (∀ c, c < cc → p0 ≠ nI c) ∨ ((∃ c, c < cc ∧ p0 = nI c) ∧ ∀ l, l < lc → p1 ≠ nI l)) (K : post 1) : wpY_evict post (nI cc, nI lc, y_frameCount, y_value, y_isOpen, y_kindOf, y_addressOf, y_operandOf, y_acc, y_finished, y_current) p0 p1 := by
  unfold wpY_evict
  rcases h with h | ⟨⟨c, hc, rfl⟩, h⟩
  · exact dm_y_c0 hcc h (br_t rfl K)
  · refine dm_y_c1 hcc hc (br_f (by decide) ?_)
    exact dm_y_l0 hlc h (br_t rfl K)
theorem dm_y_pf0 (hcc : cc ≤ 4) (hlc : lc ≤ 8) (hc : c < cc) (hl : l < lc) (K : post 0) : wpY_prefetch post (nI cc, nI lc, y_frameCount, y_value, y_isOpen, y_kindOf, y_addressOf, y_operandOf, y_acc, y_finished, y_current) (nI c) (nI l) p2 := by
  unfold wpY_prefetch
  refine dm_y_c1 hcc hc (br_f (by decide) ?_)
  exact dm_y_l1 hlc hl (br_f (by decide) K)
theorem dm_y_pf1 (hcc : cc ≤ 4) (hlc : lc ≤ 8) (h : (∀ c, c < cc → p0 ≠ nI c) ∨ ((∃ c, c < cc ∧ p0 = nI c) ∧ ∀ l, l < lc → p1 ≠ nI l)) (K : post 1) : wpY_prefetch post (nI cc, nI lc, y_frameCount, y_value, y_isOpen, y_kindOf, y_addressOf, y_operandOf, y_acc, y_finished, y_current) p0 p1 p2 := by
  unfold wpY_prefetch
  rcases h with h | ⟨⟨c, hc, rfl⟩, h⟩
  · exact dm_y_c0 hcc h (br_t rfl K)
  · refine dm_y_c1 hcc hc (br_f (by decide) ?_)
    exact dm_y_l0 hlc h (br_t rfl K)
end
theorem i_vc_deliverTo {k : Nat} {u : SX} {v : SY} (I : i_Rel k u v) (hk : k + 5 ≤ 2563) (v1 : Int32) (v2 : Int32) : wpX_deliverTo (fun r u' => wpY_deliverTo (fun r' => r' = r ∧ i_Rel (k + 5) u' v) v v1 v2) u v1 v2 := by
  refine dm_Rel_el (P := fun u v => wpX_deliverTo (fun r u' => wpY_deliverTo (fun r' => r' = r ∧ i_Rel (k + 5) u' v) v v1 v2) u v1 v2) ?_ I
  clear I
  generalize k + 5 = kk
  intro cc lc fc oc ok oa cu k gr ac fr d nd aw n nq R dI dA V pf M f_msgGetS f_msgGetM f_msgPut f_msgDone f_msgCopyBack f_msgFwdS f_msgFwdM f_msgInv f_msgAck f_msgData f_msgGrant f_msgPutAck f_stFree f_stS f_stE f_stM f_stIS f_stIM f_stSM f_stSI f_stEI f_stMI f_stII f_coreCount f_lineCount f_frameCount f_msgCount f_inType f_inTo f_inLine f_inCore f_inInfo f_inAcks a_opKind a_opAddress a_opOperand a_opResult a_opPerformed a_acc a_closedCount a_nextVictim a_frameLine a_frameState a_frameTarget a_frameAcks a_frameGranted a_frameWords a_memory a_current a_homeOwner a_homeSharers a_homeNextOwner a_homeNextSharers a_homeBusy a_homeAwaits a_queueHead a_queueLength a_queueType a_queueCore a_queueInfo a_queueWords a_msgType a_msgTo a_msgLine a_msgCore a_msgInfo a_msgAcks a_msgWords a_inWords y_value y_isOpen y_kindOf y_addressOf hY hX hL hp
  have hZ := hX.1
  have hM80 := dm_M80 hX hL
  have loop : (v1 = 4 ∨ ∃ c, c < cc ∧ v1 = nI c) → ∃ n20, wX_deliverTo_20 (fun r u' => wpY_deliverTo (fun r' => r' = r ∧ i_Rel kk u' (nI cc, nI lc, nI fc, y_value, y_isOpen, y_kindOf, y_addressOf, a_opOperand, a_acc, a_closedCount, a_current)) (nI cc, nI lc, nI fc, y_value, y_isOpen, y_kindOf, y_addressOf, a_opOperand, a_acc, a_closedCount, a_current) v1 v2) v1 v2 f_msgGetS f_msgGetM f_msgPut f_msgDone f_msgCopyBack f_msgFwdS f_msgFwdM f_msgInv f_msgAck f_msgData f_msgGrant f_msgPutAck f_stFree f_stS f_stE f_stM f_stIS f_stIM f_stSM f_stSI f_stEI f_stMI f_stII (nI cc) (nI lc) (nI fc) (nI M) f_inType f_inTo f_inLine f_inCore f_inInfo f_inAcks a_opKind a_opAddress a_opOperand a_opResult a_opPerformed a_acc a_closedCount a_nextVictim a_frameLine a_frameState a_frameTarget a_frameAcks a_frameGranted a_frameWords a_memory a_current a_homeOwner a_homeSharers a_homeNextOwner a_homeNextSharers a_homeBusy a_homeAwaits a_queueHead a_queueLength a_queueType a_queueCore a_queueInfo a_queueWords a_msgType a_msgTo a_msgLine a_msgCore a_msgInfo a_msgAcks a_msgWords a_inWords n20 0 0 := fun hv => by
    refine ⟨M + 1, dm_dt20 hM80 (dm_y_dt0 hZ.2.1 hv ⟨rfl, dm_Rel_mk hY hX hL hp⟩) (fun x5 hx => ?_) M 0 0 (by omega) (by omega)⟩
    unfold wX_deliverTo_112
    rcases hx with rfl | ⟨s, hs, rfl⟩
    · exact br_t (by decide) (dm_y_dt0 hZ.2.1 hv ⟨rfl, dm_Rel_mk hY hX hL hp⟩)
    · refine dm_ho (gl := 8) (N := 523) (y_acc := a_acc) (y_opn := a_opOperand) (y_fin := a_closedCount) (y_cur := a_current) (fun u' hI => dm_y_dt0 hZ.2.1 hv ⟨rfl, dm_Rel_IB hY (dm_IB_N (Nat.le_refl _) hI)⟩) hX hL hp ?_ (fun e he => Or.inl (hX.2.1.1 8 e (by omega))) rfl rfl rfl rfl (dm_hg8 hZ.2.2.2.1 hX.2.2.2.2.2.2.1) hs
      have h1 := dm_Phi_le hL
      have h2 := dm_Psi_le (oc := oc) (ok := ok) (oa := oa) (pf := pf) (k := k)
      omega
  refine br_c (fun h => loop (Or.inl h)) (fun h4 => ?_)
  exact dm_w_isCore hZ.2.1 (fun c hc e => br_f (by decide) (loop (Or.inr ⟨c, hc, e⟩))) (fun h => br_t rfl (dm_y_dt1 hZ.2.1 h4 h ⟨rfl, dm_Rel_mk hY hX hL hp⟩))
theorem i_vc_evict {k : Nat} {u : SX} {v : SY} (I : i_Rel k u v) (hk : k + 5 ≤ 2563) (v1 : Int32) (v2 : Int32) : wpX_evict (fun r u' => wpY_evict (fun r' => r' = r ∧ i_Rel (k + 5) u' v) v v1 v2) u v1 v2 := by
  refine dm_Rel_el (P := fun u v => wpX_evict (fun r u' => wpY_evict (fun r' => r' = r ∧ i_Rel (k + 5) u' v) v v1 v2) u v1 v2) ?_ I
  clear I
  generalize k + 5 = kk
  intro cc lc fc oc ok oa cu k gr ac fr d nd aw n nq R dI dA V pf M f_msgGetS f_msgGetM f_msgPut f_msgDone f_msgCopyBack f_msgFwdS f_msgFwdM f_msgInv f_msgAck f_msgData f_msgGrant f_msgPutAck f_stFree f_stS f_stE f_stM f_stIS f_stIM f_stSM f_stSI f_stEI f_stMI f_stII f_coreCount f_lineCount f_frameCount f_msgCount f_inType f_inTo f_inLine f_inCore f_inInfo f_inAcks a_opKind a_opAddress a_opOperand a_opResult a_opPerformed a_acc a_closedCount a_nextVictim a_frameLine a_frameState a_frameTarget a_frameAcks a_frameGranted a_frameWords a_memory a_current a_homeOwner a_homeSharers a_homeNextOwner a_homeNextSharers a_homeBusy a_homeAwaits a_queueHead a_queueLength a_queueType a_queueCore a_queueInfo a_queueWords a_msgType a_msgTo a_msgLine a_msgCore a_msgInfo a_msgAcks a_msgWords a_inWords y_value y_isOpen y_kindOf y_addressOf hY hX hL hp
  have hZ := hX.1
  have hM80 := dm_M80 hX hL
  unfold wpX_evict
  refine dm_w_isCore hZ.2.1 (fun c hc e => br_f (by decide) ?_) (fun h => br_t rfl (dm_y_ev1 hZ.2.1 hZ.2.2.2.1 (Or.inl h) ⟨rfl, dm_Rel_mk hY hX hL hp⟩))
  subst e
  refine dm_w_isLine hZ.2.2.2.1 (fun l hl e => br_f (by decide) ?_) (fun h => br_t rfl (dm_y_ev1 hZ.2.1 hZ.2.2.2.1 (Or.inr ⟨⟨c, hc, rfl⟩, h⟩) ⟨rfl, dm_Rel_mk hY hX hL hp⟩))
  subst e
  have keep : wpY_evict (fun r' => r' = 0 ∧ i_Rel kk (f_msgGetS, f_msgGetM, f_msgPut, f_msgDone, f_msgCopyBack, f_msgFwdS, f_msgFwdM, f_msgInv, f_msgAck, f_msgData, f_msgGrant, f_msgPutAck, f_stFree, f_stS, f_stE, f_stM, f_stIS, f_stIM, f_stSM, f_stSI, f_stEI, f_stMI, f_stII, nI cc, nI lc, nI fc, nI M, f_inType, f_inTo, f_inLine, f_inCore, f_inInfo, f_inAcks, a_opKind, a_opAddress, a_opOperand, a_opResult, a_opPerformed, a_acc, a_closedCount, a_nextVictim, a_frameLine, a_frameState, a_frameTarget, a_frameAcks, a_frameGranted, a_frameWords, a_memory, a_current, a_homeOwner, a_homeSharers, a_homeNextOwner, a_homeNextSharers, a_homeBusy, a_homeAwaits, a_queueHead, a_queueLength, a_queueType, a_queueCore, a_queueInfo, a_queueWords, a_msgType, a_msgTo, a_msgLine, a_msgCore, a_msgInfo, a_msgAcks, a_msgWords, a_inWords) (nI cc, nI lc, nI fc, y_value, y_isOpen, y_kindOf, y_addressOf, a_opOperand, a_acc, a_closedCount, a_current)) (nI cc, nI lc, nI fc, y_value, y_isOpen, y_kindOf, y_addressOf, a_opOperand, a_acc, a_closedCount, a_current) (nI c) (nI l) := dm_y_ev0 hZ.2.1 hZ.2.2.2.1 hc hl ⟨rfl, dm_Rel_mk hY hX hL hp⟩
  have hi : vp_in (nI c) 4 := vp_in_nI (by omega) (by omega)
  have hcl : (nI c).toNatClampNeg = c := nI_clamp (by omega)
  obtain ⟨o1, o2, o3, o4, o5⟩ := hX.2.2.2.2.2.2.1 c (by omega)
  refine dm_find hX hc hl (fun hk0 => br_f (nI_pos (by have := dm_stE hX hL hk0; omega)) ?_) (fun _ => br_t (by decide) keep)
  obtain ⟨q1, q2, q17, q3⟩ := dm_stE hX hL hk0
  refine dm_w_stab q1 q2 q3 (fun h1 h3 => br_f (by decide) ⟨hi, ?_⟩) (fun _ => br_t rfl keep)
  have hks := dm_stsb q17 h1 h3
  have give : (oc c = 1 → pf c = 0 → oa c / 4 ≠ l) → wX_evict_73 (fun r u' => wpY_evict (fun r' => r' = r ∧ i_Rel kk u' (nI cc, nI lc, nI fc, y_value, y_isOpen, y_kindOf, y_addressOf, a_opOperand, a_acc, a_closedCount, a_current)) (nI cc, nI lc, nI fc, y_value, y_isOpen, y_kindOf, y_addressOf, a_opOperand, a_acc, a_closedCount, a_current) (nI c) (nI l)) (nI c) (nI (4 * c + fr l c)) f_msgGetS f_msgGetM f_msgPut f_msgDone f_msgCopyBack f_msgFwdS f_msgFwdM f_msgInv f_msgAck f_msgData f_msgGrant f_msgPutAck f_stFree f_stS f_stE f_stM f_stIS f_stIM f_stSM f_stSI f_stEI f_stMI f_stII (nI cc) (nI lc) (nI fc) (nI M) f_inType f_inTo f_inLine f_inCore f_inInfo f_inAcks a_opKind a_opAddress a_opOperand a_opResult a_opPerformed a_acc a_closedCount a_nextVictim a_frameLine a_frameState a_frameTarget a_frameAcks a_frameGranted a_frameWords a_memory a_current a_homeOwner a_homeSharers a_homeNextOwner a_homeNextSharers a_homeBusy a_homeAwaits a_queueHead a_queueLength a_queueType a_queueCore a_queueInfo a_queueWords a_msgType a_msgTo a_msgLine a_msgCore a_msgInfo a_msgAcks a_msgWords a_inWords := fun hn => by
    unfold wX_evict_73 wX_evict_74
    exact br_t rfl (dm_o_give hX hL (by omega) (by omega) (by omega) (by omega) (fun w1 w2 w3 w4 w5 w6 w7 w8 hX' hL' => dm_y_ev0 hZ.2.1 hZ.2.2.2.1 hc hl ⟨rfl, dm_Rel_mk hY hX' hL' (dm_PU_give (by omega) (by omega) (by omega) hn hp)⟩))
  rw [hcl]
  by_cases ho : oc c = 1
  · obtain ⟨p1, p2, p3, p4, p5⟩ := o4 ho
    refine br_f (by rw [p4]; exact nI_pos (by omega)) ⟨hi, ?_⟩
    by_cases hf : pf c = 0
    · refine br_t (by rw [o5, hf]; rfl) ⟨hi, by decide, ?_⟩
      rw [p5, dm_div4 (by omega)]
      refine pk_eq (oa c / 4) l (fun h => br_f (by decide) keep) (fun h => give (fun _ _ => h))
    · exact br_f (by rw [o5, show pf c = 1 from by omega]; decide) (give (fun _ z => absurd z hf))
  · exact br_t (by rw [(o3 (by omega)).1]; decide) (give (fun z => absurd z ho))
theorem i_vc_prefetch {k : Nat} {u : SX} {v : SY} (I : i_Rel k u v) (hk : k + 5 ≤ 2563) (v1 : Int32) (v2 : Int32) (v3 : Int32) : wpX_prefetch (fun r u' => wpY_prefetch (fun r' => r' = r ∧ i_Rel (k + 5) u' v) v v1 v2 (lw_bz v3)) u v1 v2 (lw_bz v3) := by
  refine dm_Rel_el (P := fun u v => wpX_prefetch (fun r u' => wpY_prefetch (fun r' => r' = r ∧ i_Rel (k + 5) u' v) v v1 v2 (lw_bz v3)) u v1 v2 (lw_bz v3)) ?_ I
  clear I
  generalize k + 5 = kk
  generalize lw_bz v3 = p
  intro cc lc fc oc ok oa cu k gr ac fr d nd aw n nq R dI dA V pf M f_msgGetS f_msgGetM f_msgPut f_msgDone f_msgCopyBack f_msgFwdS f_msgFwdM f_msgInv f_msgAck f_msgData f_msgGrant f_msgPutAck f_stFree f_stS f_stE f_stM f_stIS f_stIM f_stSM f_stSI f_stEI f_stMI f_stII f_coreCount f_lineCount f_frameCount f_msgCount f_inType f_inTo f_inLine f_inCore f_inInfo f_inAcks a_opKind a_opAddress a_opOperand a_opResult a_opPerformed a_acc a_closedCount a_nextVictim a_frameLine a_frameState a_frameTarget a_frameAcks a_frameGranted a_frameWords a_memory a_current a_homeOwner a_homeSharers a_homeNextOwner a_homeNextSharers a_homeBusy a_homeAwaits a_queueHead a_queueLength a_queueType a_queueCore a_queueInfo a_queueWords a_msgType a_msgTo a_msgLine a_msgCore a_msgInfo a_msgAcks a_msgWords a_inWords y_value y_isOpen y_kindOf y_addressOf hY hX hL hp
  have hZ := hX.1
  have hM80 := dm_M80 hX hL
  unfold wpX_prefetch
  refine dm_w_isCore hZ.2.1 (fun c hc e => br_f (by decide) ?_) (fun h => br_t rfl (dm_y_pf1 hZ.2.1 hZ.2.2.2.1 (Or.inl h) ⟨rfl, dm_Rel_mk hY hX hL hp⟩))
  subst e
  refine dm_w_isLine hZ.2.2.2.1 (fun l hl e => br_f (by decide) ?_) (fun h => br_t rfl (dm_y_pf1 hZ.2.1 hZ.2.2.2.1 (Or.inr ⟨⟨c, hc, rfl⟩, h⟩) ⟨rfl, dm_Rel_mk hY hX hL hp⟩))
  subst e
  have keep : wpY_prefetch (fun r' => r' = 0 ∧ i_Rel kk (f_msgGetS, f_msgGetM, f_msgPut, f_msgDone, f_msgCopyBack, f_msgFwdS, f_msgFwdM, f_msgInv, f_msgAck, f_msgData, f_msgGrant, f_msgPutAck, f_stFree, f_stS, f_stE, f_stM, f_stIS, f_stIM, f_stSM, f_stSI, f_stEI, f_stMI, f_stII, nI cc, nI lc, nI fc, nI M, f_inType, f_inTo, f_inLine, f_inCore, f_inInfo, f_inAcks, a_opKind, a_opAddress, a_opOperand, a_opResult, a_opPerformed, a_acc, a_closedCount, a_nextVictim, a_frameLine, a_frameState, a_frameTarget, a_frameAcks, a_frameGranted, a_frameWords, a_memory, a_current, a_homeOwner, a_homeSharers, a_homeNextOwner, a_homeNextSharers, a_homeBusy, a_homeAwaits, a_queueHead, a_queueLength, a_queueType, a_queueCore, a_queueInfo, a_queueWords, a_msgType, a_msgTo, a_msgLine, a_msgCore, a_msgInfo, a_msgAcks, a_msgWords, a_inWords) (nI cc, nI lc, nI fc, y_value, y_isOpen, y_kindOf, y_addressOf, a_opOperand, a_acc, a_closedCount, a_current)) (nI cc, nI lc, nI fc, y_value, y_isOpen, y_kindOf, y_addressOf, a_opOperand, a_acc, a_closedCount, a_current) (nI c) (nI l) p := dm_y_pf0 hZ.2.1 hZ.2.2.2.1 hc hl ⟨rfl, dm_Rel_mk hY hX hL hp⟩
  refine dm_find hX hc hl (fun hk0 => br_t (nI_pos' (by have := dm_stE hX hL hk0; omega)) ?_) (fun hk0 => br_f (by decide) (dm_w_free (by omega) hZ.2.2.2.2.2 (fun f hf e0 => br_f (nI_pos (by omega)) ?_) (fun _ => br_t (by decide) keep)))
  · obtain ⟨q1, q2, q17, q3⟩ := dm_stE hX hL hk0
    refine dm_w_stab q1 q2 q3 (fun h1 h3 => br_f (by decide) ?_) (fun _ => br_t rfl keep)
    have hks := dm_stsb q17 h1 h3
    by_cases hp0 : p = 0
    · subst hp0
      exact dm_w_all0 q1 q2 q3 (fun _ => br_f (by decide) keep) (fun h => absurd (show _ ∨ _ from by omega) h)
    · refine dm_w_all1 q1 q2 hp0 q3 (fun _ => br_f (by decide) keep) (fun h => br_t rfl ?_)
      have hk1 : k l c = 1 := by omega
      exact dm_o_upg hX hL (by omega) hk1 (by omega) (fun w0 w1 w2 w3 w4 w5 w6 w7 w8 hX' hL' => dm_y_pf0 hZ.2.1 hZ.2.2.2.1 hc hl ⟨rfl, dm_Rel_mk hY hX' hL' (dm_PU_upg (by omega) hk1 hp)⟩)
  · have ht : ∃ t, (p = 0 ∧ t = 0) ∨ (¬ p = 0 ∧ t = 1) := by
      by_cases hp0 : p = 0
      · exact ⟨0, Or.inl ⟨hp0, rfl⟩⟩
      · exact ⟨1, Or.inr ⟨hp0, rfl⟩⟩
    obtain ⟨t, ht⟩ := ht
    exact dm_o_fetch hX hL hl hc hf e0 hk0 (by omega) ht (fun wl w0 w1 w2 w3 w4 w5 w6 w7 w8 hw hX' hL' => dm_y_pf0 hZ.2.1 hZ.2.2.2.1 hc hl ⟨rfl, dm_Rel_mk hY hX' hL' (dm_PU_fetch hZ.2.2.2.2.2 hf e0 hw hk0 hp)⟩)
end
section

def dm_FNu (post : Int64 → SX → Prop) (x1 x2 : Int32) (m : Nat) (x : Int32) (u : SX) : Prop := match u with
  | (f_msgGetS, f_msgGetM, f_msgPut, f_msgDone, f_msgCopyBack, f_msgFwdS, f_msgFwdM, f_msgInv, f_msgAck, f_msgData, f_msgGrant, f_msgPutAck, f_stFree, f_stS, f_stE, f_stM, f_stIS, f_stIM, f_stSM, f_stSI, f_stEI, f_stMI, f_stII, f_coreCount, f_lineCount, f_frameCount, f_msgCount, f_inType, f_inTo, f_inLine, f_inCore, f_inInfo, f_inAcks, a_opKind, a_opAddress, a_opOperand, a_opResult, a_opPerformed, a_acc, a_closedCount, a_nextVictim, a_frameLine, a_frameState, a_frameTarget, a_frameAcks, a_frameGranted, a_frameWords, a_memory, a_current, a_homeOwner, a_homeSharers, a_homeNextOwner, a_homeNextSharers, a_homeBusy, a_homeAwaits, a_queueHead, a_queueLength, a_queueType, a_queueCore, a_queueInfo, a_queueWords, a_msgType, a_msgTo, a_msgLine, a_msgCore, a_msgInfo, a_msgAcks, a_msgWords, a_inWords) => wX_finish_27 post x1 x2 m x f_msgGetS f_msgGetM f_msgPut f_msgDone f_msgCopyBack f_msgFwdS f_msgFwdM f_msgInv f_msgAck f_msgData f_msgGrant f_msgPutAck f_stFree f_stS f_stE f_stM f_stIS f_stIM f_stSM f_stSI f_stEI f_stMI f_stII f_coreCount f_lineCount f_frameCount f_msgCount f_inType f_inTo f_inLine f_inCore f_inInfo f_inAcks a_opKind a_opAddress a_opOperand a_opResult a_opPerformed a_acc a_closedCount a_nextVictim a_frameLine a_frameState a_frameTarget a_frameAcks a_frameGranted a_frameWords a_memory a_current a_homeOwner a_homeSharers a_homeNextOwner a_homeNextSharers a_homeBusy a_homeAwaits a_queueHead a_queueLength a_queueType a_queueCore a_queueInfo a_queueWords a_msgType a_msgTo a_msgLine a_msgCore a_msgInfo a_msgAcks a_msgWords a_inWords
theorem dm_fin_l {cc lc fc : Nat} {oc ok oa cu : Nat → Nat} {val y_acc y_opn y_fin y_cur : Nat → Int32} {post : Int64 → SX → Prop} {p : Int32} {c : Nat} (hc : c < 4) (ho : oc c = 1)
    (K : ∀ (k gr : Nat → Nat → Nat) (ac : Nat → Nat → Int) (fr d nd : Nat → Nat → Nat) (aw : Nat → Nat) (n nq : Nat → Nat → Nat → Nat) (R dI dA : Nat → Nat) (V : Nat → Nat → Int32) (pf : Nat → Nat) (M : Nat) (f_msgGetS f_msgGetM f_msgPut f_msgDone f_msgCopyBack f_msgFwdS f_msgFwdM f_msgInv f_msgAck f_msgData f_msgGrant f_msgPutAck f_stFree f_stS f_stE f_stM f_stIS f_stIM f_stSM f_stSI f_stEI f_stMI f_stII f_coreCount f_lineCount f_frameCount f_msgCount f_inType f_inTo f_inLine f_inCore f_inInfo f_inAcks : Int32) (a_opKind a_opAddress a_opOperand a_opResult a_opPerformed a_acc a_closedCount a_nextVictim a_frameLine a_frameState a_frameTarget a_frameAcks a_frameGranted a_frameWords a_memory a_current a_homeOwner a_homeSharers a_homeNextOwner a_homeNextSharers a_homeBusy a_homeAwaits a_queueHead a_queueLength a_queueType a_queueCore a_queueInfo a_queueWords a_msgType a_msgTo a_msgLine a_msgCore a_msgInfo a_msgAcks a_msgWords a_inWords : Nat → Int32), dm_X cc lc fc k gr ac fr d nd aw n nq R dI dA V oc ok oa pf cu val M a_opKind a_opAddress a_opOperand a_opResult a_opPerformed a_acc a_nextVictim a_frameLine a_frameState a_frameTarget a_frameAcks a_frameGranted a_frameWords a_memory a_current a_homeOwner a_homeSharers a_homeNextOwner a_homeNextSharers a_homeBusy a_homeAwaits a_queueHead a_queueLength a_queueType a_queueCore a_queueInfo a_queueWords a_msgType a_msgTo a_msgLine a_msgCore a_msgInfo a_msgAcks a_msgWords → dm_LL 8 k gr ac d nd aw n nq R dI dA cu → (∀ e, e < 4 → dm_PU fc oc ok oa pf k a_frameLine e) → pf c = 1 → a_acc = y_acc → a_opOperand = y_opn → a_closedCount = y_fin → a_current = y_cur → wX_finish_73 post (nI c) f_msgGetS f_msgGetM f_msgPut f_msgDone f_msgCopyBack f_msgFwdS f_msgFwdM f_msgInv f_msgAck f_msgData f_msgGrant f_msgPutAck f_stFree f_stS f_stE f_stM f_stIS f_stIM f_stSM f_stSI f_stEI f_stMI f_stII (nI cc) (nI lc) (nI fc) (nI M) f_inType f_inTo f_inLine f_inCore f_inInfo f_inAcks a_opKind a_opAddress a_opOperand a_opResult a_opPerformed a_acc a_closedCount a_nextVictim a_frameLine a_frameState a_frameTarget a_frameAcks a_frameGranted a_frameWords a_memory a_current a_homeOwner a_homeSharers a_homeNextOwner a_homeNextSharers a_homeBusy a_homeAwaits a_queueHead a_queueLength a_queueType a_queueCore a_queueInfo a_queueWords a_msgType a_msgTo a_msgLine a_msgCore a_msgInfo a_msgAcks a_msgWords a_inWords) : ∀ N i, N + i ≤ 2000 → ∀ u, dm_IB cc lc fc oc ok oa cu val y_acc y_opn y_fin y_cur 8 N u → dm_FNu post (nI c) p (N + 1) (nI i) u := by
  have hi4 : vp_in (nI c) 4 := vp_in_nI hc (by omega)
  have hcl : (nI c).toNatClampNeg = c := nI_clamp (by omega)
  intro N
  induction N with
  | zero =>
    intro i hi u I
    refine dm_IB_el (P := fun u => dm_FNu post (nI c) p 1 (nI i) u) ?_ I
    intro k gr ac fr d nd aw n nq R dI dA V pf M f_msgGetS f_msgGetM f_msgPut f_msgDone f_msgCopyBack f_msgFwdS f_msgFwdM f_msgInv f_msgAck f_msgData f_msgGrant f_msgPutAck f_stFree f_stS f_stE f_stM f_stIS f_stIM f_stSM f_stSI f_stEI f_stMI f_stII f_coreCount f_lineCount f_frameCount f_msgCount f_inType f_inTo f_inLine f_inCore f_inInfo f_inAcks a_opKind a_opAddress a_opOperand a_opResult a_opPerformed a_acc a_closedCount a_nextVictim a_frameLine a_frameState a_frameTarget a_frameAcks a_frameGranted a_frameWords a_memory a_current a_homeOwner a_homeSharers a_homeNextOwner a_homeNextSharers a_homeBusy a_homeAwaits a_queueHead a_queueLength a_queueType a_queueCore a_queueInfo a_queueWords a_msgType a_msgTo a_msgLine a_msgCore a_msgInfo a_msgAcks a_msgWords a_inWords hX hL hp hN hgn e1 e2 e3 e4
    have hM0 : M = 0 := by
      have h1 := dm_M_Phi (n := n) (nq := nq) (gr := gr)
      have h2 := hX.2.2.2.2.2.1.1
      omega
    subst hM0
    have hpf := dm_live hX hL hp c hc ho
    have q : wX_finish_73 post (nI c) f_msgGetS f_msgGetM f_msgPut f_msgDone f_msgCopyBack f_msgFwdS f_msgFwdM f_msgInv f_msgAck f_msgData f_msgGrant f_msgPutAck f_stFree f_stS f_stE f_stM f_stIS f_stIM f_stSM f_stSI f_stEI f_stMI f_stII (nI cc) (nI lc) (nI fc) (nI 0) f_inType f_inTo f_inLine f_inCore f_inInfo f_inAcks a_opKind a_opAddress a_opOperand a_opResult a_opPerformed a_acc a_closedCount a_nextVictim a_frameLine a_frameState a_frameTarget a_frameAcks a_frameGranted a_frameWords a_memory a_current a_homeOwner a_homeSharers a_homeNextOwner a_homeNextSharers a_homeBusy a_homeAwaits a_queueHead a_queueLength a_queueType a_queueCore a_queueInfo a_queueWords a_msgType a_msgTo a_msgLine a_msgCore a_msgInfo a_msgAcks a_msgWords a_inWords := K k gr ac fr d nd aw n nq R dI dA V pf 0 f_msgGetS f_msgGetM f_msgPut f_msgDone f_msgCopyBack f_msgFwdS f_msgFwdM f_msgInv f_msgAck f_msgData f_msgGrant f_msgPutAck f_stFree f_stS f_stE f_stM f_stIS f_stIM f_stSM f_stSI f_stEI f_stMI f_stII f_coreCount f_lineCount f_frameCount (nI 0) f_inType f_inTo f_inLine f_inCore f_inInfo f_inAcks a_opKind a_opAddress a_opOperand a_opResult a_opPerformed a_acc a_closedCount a_nextVictim a_frameLine a_frameState a_frameTarget a_frameAcks a_frameGranted a_frameWords a_memory a_current a_homeOwner a_homeSharers a_homeNextOwner a_homeNextSharers a_homeBusy a_homeAwaits a_queueHead a_queueLength a_queueType a_queueCore a_queueInfo a_queueWords a_msgType a_msgTo a_msgLine a_msgCore a_msgInfo a_msgAcks a_msgWords a_inWords hX hL hp hpf e1 e2 e3 e4
    refine br_c (fun _ => q) (fun _ => ⟨hi4, br_c (fun _ => br_t (by decide) q) (fun _ => q)⟩)
  | succ N ih =>
    intro i hi u I
    refine dm_IB_el (P := fun u => dm_FNu post (nI c) p (N + 1 + 1) (nI i) u) ?_ I
    intro k gr ac fr d nd aw n nq R dI dA V pf M f_msgGetS f_msgGetM f_msgPut f_msgDone f_msgCopyBack f_msgFwdS f_msgFwdM f_msgInv f_msgAck f_msgData f_msgGrant f_msgPutAck f_stFree f_stS f_stE f_stM f_stIS f_stIM f_stSM f_stSI f_stEI f_stMI f_stII f_coreCount f_lineCount f_frameCount f_msgCount f_inType f_inTo f_inLine f_inCore f_inInfo f_inAcks a_opKind a_opAddress a_opOperand a_opResult a_opPerformed a_acc a_closedCount a_nextVictim a_frameLine a_frameState a_frameTarget a_frameAcks a_frameGranted a_frameWords a_memory a_current a_homeOwner a_homeSharers a_homeNextOwner a_homeNextSharers a_homeBusy a_homeAwaits a_queueHead a_queueLength a_queueType a_queueCore a_queueInfo a_queueWords a_msgType a_msgTo a_msgLine a_msgCore a_msgInfo a_msgAcks a_msgWords a_inWords hX hL hp hN hgn e1 e2 e3 e4
    have hM80 := dm_M80 hX hL
    have hZ := hX.1
    obtain ⟨o1, o2, o3, o4, o5⟩ := hX.2.2.2.2.2.2.1 c hc
    refine br_f (nI_ge (b := 2000) (by omega) (by decide)) ⟨hi4, ?_⟩
    rw [hcl, o5]
    refine pk_eq (pf c) 0 (fun hf => pk_le M 0 (fun h => ?_) (fun h => ?_)) (fun hf => K k gr ac fr d nd aw n nq R dI dA V pf M f_msgGetS f_msgGetM f_msgPut f_msgDone f_msgCopyBack f_msgFwdS f_msgFwdM f_msgInv f_msgAck f_msgData f_msgGrant f_msgPutAck f_stFree f_stS f_stE f_stM f_stIS f_stIM f_stSM f_stSI f_stEI f_stMI f_stII f_coreCount f_lineCount f_frameCount f_msgCount f_inType f_inTo f_inLine f_inCore f_inInfo f_inAcks a_opKind a_opAddress a_opOperand a_opResult a_opPerformed a_acc a_closedCount a_nextVictim a_frameLine a_frameState a_frameTarget a_frameAcks a_frameGranted a_frameWords a_memory a_current a_homeOwner a_homeSharers a_homeNextOwner a_homeNextSharers a_homeBusy a_homeAwaits a_queueHead a_queueLength a_queueType a_queueCore a_queueInfo a_queueWords a_msgType a_msgTo a_msgLine a_msgCore a_msgInfo a_msgAcks a_msgWords a_inWords hX hL hp (by omega) e1 e2 e3 e4)
    · have hM0 : M = 0 := by omega
      subst hM0
      have := dm_live hX hL hp c hc ho
      omega
    · refine dm_w_choose h (by omega) (fun s hs => dm_ho (gl := 8) (N := N) (fun u' hI => ?_) hX hL hp hN hgn e1 e2 e3 e4 (dm_hg8 hZ.2.2.2.1 hX.2.2.2.2.2.2.1) hs)
      exact nm_r (P := fun x => dm_FNu post (nI c) p (N + 1) x u') (nI_1 i) (ih (i + 1) (by omega) u' hI)
/-- the accumulator behind a finished operation -/
def dm_ac1 (kd : Nat) (acc : Nat → Int32) (c : Nat) (r : Int32) : Nat → Int32 := if kd = 0 ∨ kd = 4 ∨ kd = 5 then upd acc c r else acc
section
variable {f_msgGetS f_msgGetM f_msgPut f_msgDone f_msgCopyBack f_msgFwdS f_msgFwdM f_msgInv f_msgAck f_msgData f_msgGrant f_msgPutAck f_stFree f_stS f_stE f_stM f_stIS f_stIM f_stSM f_stSI f_stEI f_stMI f_stII f_coreCount f_lineCount f_frameCount f_msgCount f_inType f_inTo f_inLine f_inCore f_inInfo f_inAcks : Int32} {a_opKind a_opAddress a_opOperand a_opResult a_opPerformed a_acc a_closedCount a_nextVictim a_frameLine a_frameState a_frameTarget a_frameAcks a_frameGranted a_frameWords a_memory a_current a_homeOwner a_homeSharers a_homeNextOwner a_homeNextSharers a_homeBusy a_homeAwaits a_queueHead a_queueLength a_queueType a_queueCore a_queueInfo a_queueWords a_msgType a_msgTo a_msgLine a_msgCore a_msgInfo a_msgAcks a_msgWords a_inWords : Nat → Int32} {post : Int64 → SX → Prop} {c kd : Nat}
theorem dm_w_fin73 (hc : c < 4) (hkd : kd ≤ 5) (ek : a_opKind c = nI kd) (K : post (a_opResult c).toInt64 (f_msgGetS, f_msgGetM, f_msgPut, f_msgDone, f_msgCopyBack, f_msgFwdS, f_msgFwdM, f_msgInv, f_msgAck, f_msgData, f_msgGrant, f_msgPutAck, f_stFree, f_stS, f_stE, f_stM, f_stIS, f_stIM, f_stSM, f_stSI, f_stEI, f_stMI, f_stII, f_coreCount, f_lineCount, f_frameCount, f_msgCount, f_inType, f_inTo, f_inLine, f_inCore, f_inInfo, f_inAcks, upd a_opKind c (-1), a_opAddress, a_opOperand, a_opResult, upd a_opPerformed c 0, dm_ac1 kd a_acc c (a_opResult c), upd a_closedCount c (a_closedCount c + 1), a_nextVictim, a_frameLine, a_frameState, a_frameTarget, a_frameAcks, a_frameGranted, a_frameWords, a_memory, a_current, a_homeOwner, a_homeSharers, a_homeNextOwner, a_homeNextSharers, a_homeBusy, a_homeAwaits, a_queueHead, a_queueLength, a_queueType, a_queueCore, a_queueInfo, a_queueWords, a_msgType, a_msgTo, a_msgLine, a_msgCore, a_msgInfo, a_msgAcks, a_msgWords, a_inWords)) : wX_finish_73 post (nI c) f_msgGetS f_msgGetM f_msgPut f_msgDone f_msgCopyBack f_msgFwdS f_msgFwdM f_msgInv f_msgAck f_msgData f_msgGrant f_msgPutAck f_stFree f_stS f_stE f_stM f_stIS f_stIM f_stSM f_stSI f_stEI f_stMI f_stII f_coreCount f_lineCount f_frameCount f_msgCount f_inType f_inTo f_inLine f_inCore f_inInfo f_inAcks a_opKind a_opAddress a_opOperand a_opResult a_opPerformed a_acc a_closedCount a_nextVictim a_frameLine a_frameState a_frameTarget a_frameAcks a_frameGranted a_frameWords a_memory a_current a_homeOwner a_homeSharers a_homeNextOwner a_homeNextSharers a_homeBusy a_homeAwaits a_queueHead a_queueLength a_queueType a_queueCore a_queueInfo a_queueWords a_msgType a_msgTo a_msgLine a_msgCore a_msgInfo a_msgAcks a_msgWords a_inWords := by
  have hi : vp_in (nI c) 4 := vp_in_nI hc (by omega)
  have hcl : (nI c).toNatClampNeg = c := nI_clamp (by omega)
  have ec : ∀ f : Nat → Int32, upd f (nI c).toNatClampNeg (f (nI c).toNatClampNeg + 1) = upd f c (f c + 1) := fun f => by rw [hcl]
  have tail : ∀ A : Nat → Int32, A = dm_ac1 kd a_acc c (a_opResult c) → wX_finish_110 post (nI c) (a_opResult c) f_msgGetS f_msgGetM f_msgPut f_msgDone f_msgCopyBack f_msgFwdS f_msgFwdM f_msgInv f_msgAck f_msgData f_msgGrant f_msgPutAck f_stFree f_stS f_stE f_stM f_stIS f_stIM f_stSM f_stSI f_stEI f_stMI f_stII f_coreCount f_lineCount f_frameCount f_msgCount f_inType f_inTo f_inLine f_inCore f_inInfo f_inAcks a_opKind a_opAddress a_opOperand a_opResult a_opPerformed A a_closedCount a_nextVictim a_frameLine a_frameState a_frameTarget a_frameAcks a_frameGranted a_frameWords a_memory a_current a_homeOwner a_homeSharers a_homeNextOwner a_homeNextSharers a_homeBusy a_homeAwaits a_queueHead a_queueLength a_queueType a_queueCore a_queueInfo a_queueWords a_msgType a_msgTo a_msgLine a_msgCore a_msgInfo a_msgAcks a_msgWords a_inWords := fun A hA => by
    subst hA
    exact ⟨hi, hi, nm_r (ec _) ⟨hi, nm_r (dm_ue hcl) ⟨hi, nm_r (dm_ub0 hcl) K⟩⟩⟩
  have t102 : kd = 0 ∨ kd = 4 ∨ kd = 5 → wX_finish_102 post (nI c) (a_opResult c) f_msgGetS f_msgGetM f_msgPut f_msgDone f_msgCopyBack f_msgFwdS f_msgFwdM f_msgInv f_msgAck f_msgData f_msgGrant f_msgPutAck f_stFree f_stS f_stE f_stM f_stIS f_stIM f_stSM f_stSI f_stEI f_stMI f_stII f_coreCount f_lineCount f_frameCount f_msgCount f_inType f_inTo f_inLine f_inCore f_inInfo f_inAcks a_opKind a_opAddress a_opOperand a_opResult a_opPerformed a_acc a_closedCount a_nextVictim a_frameLine a_frameState a_frameTarget a_frameAcks a_frameGranted a_frameWords a_memory a_current a_homeOwner a_homeSharers a_homeNextOwner a_homeNextSharers a_homeBusy a_homeAwaits a_queueHead a_queueLength a_queueType a_queueCore a_queueInfo a_queueWords a_msgType a_msgTo a_msgLine a_msgCore a_msgInfo a_msgAcks a_msgWords a_inWords := fun h => ⟨hi, nm_r (dm_ue hcl) (tail _ (by rw [dm_ac1, if_pos h]))⟩
  refine ⟨hi, nm_r ((congrArg a_opKind hcl).trans ek) ⟨hi, nm_r (congrArg a_opResult hcl) (pk_eq kd 0 (fun h => t102 (by omega)) fun h0 => pk_eq kd 4 (fun h => t102 (by omega)) fun h4 => pk_eq kd 5 (fun h => t102 (by omega)) fun h5 => tail _ (by rw [dm_ac1, if_neg (by omega)]))⟩⟩
end
section
variable {y_coreCount y_lineCount y_frameCount : Int32} {y_value y_isOpen y_kindOf y_addressOf y_operandOf y_acc y_finished y_current : Nat → Int32} {post : Int64 → SY → Prop} {cc c kd a : Nat} {p : Int32}
theorem dm_y_fin (hcc : cc ≤ 4) (hc : c < cc) (hkd : kd ≤ 5) (ha : a < 32) (eo : y_isOpen c = 1) (ek : y_kindOf c = nI kd) (ea : y_addressOf c = nI a)
    (K : post (dm_res kd (y_operandOf c) (y_value a)).toInt64 (nI cc, y_lineCount, y_frameCount, upd y_value a (dm_app kd (y_operandOf c) (y_acc c) (y_value a)), upd y_isOpen c 0, y_kindOf, y_addressOf, y_operandOf, dm_ac1 kd y_acc c (dm_res kd (y_operandOf c) (y_value a)), upd y_finished c (y_finished c + 1), y_current)) : wpY_finish post (nI cc, y_lineCount, y_frameCount, y_value, y_isOpen, y_kindOf, y_addressOf, y_operandOf, y_acc, y_finished, y_current) (nI c) p := by
  have hi : vp_in (nI c) 4 := vp_in_nI (by omega) (by omega)
  have hcl : (nI c).toNatClampNeg = c := nI_clamp (by omega)
  have hia : vp_in (nI a) 32 := vp_in_nI ha (by omega)
  have hca : (nI a).toNatClampNeg = a := nI_clamp (by omega)
  have ec : ∀ f : Nat → Int32, upd f (nI c).toNatClampNeg (f (nI c).toNatClampNeg + 1) = upd f c (f c + 1) := fun f => by rw [hcl]
  unfold wpY_finish
  refine dm_y_h1 hcc hc eo (br_f (by decide) ⟨hi, nm_r ((congrArg y_kindOf hcl).trans ek) ⟨hi, nm_r ((congrArg y_addressOf hcl).trans ea) ⟨hi, nm_r (congrArg y_operandOf hcl) ⟨hia, nm_r (congrArg y_value hca) ?_⟩⟩⟩⟩)
  have tail : ∀ (VV A : Nat → Int32) (r : Int32), VV = upd y_value a (dm_app kd (y_operandOf c) (y_acc c) (y_value a)) → A = dm_ac1 kd y_acc c (dm_res kd (y_operandOf c) (y_value a)) → r = dm_res kd (y_operandOf c) (y_value a) → wY_finish_189 post (nI c) r (nI cc) y_lineCount y_frameCount VV y_isOpen y_kindOf y_addressOf y_operandOf A y_finished y_current := fun VV A r h1 h2 h3 => by
    subst h1 h2 h3
    exact ⟨hi, hi, nm_r (ec _) ⟨hi, nm_r (dm_ub0 hcl) K⟩⟩
  have a1 : dm_app 1 (y_operandOf c) (y_acc c) (y_value a) = y_operandOf c := by simp [dm_app]
  have a4 : dm_app 4 (y_operandOf c) (y_acc c) (y_value a) = y_operandOf c := by simp [dm_app]
  refine pk_eq kd 0 (fun h => ?_) fun h0 => pk_eq kd 1 (fun h => ?_) fun h1 => pk_eq kd 2 (fun h => ?_) fun h2 => pk_eq kd 3 (fun h => ?_) fun h3 => pk_eq kd 4 (fun h => ?_) fun h4 => ?_
  · subst h
    exact ⟨hi, nm_r (dm_ue hcl) (tail _ _ _ (by rw [dm_app0, dm_upd_id]) (by rw [dm_ac1, if_pos (by omega), dm_res, if_neg (by omega)]) (by rw [dm_res, if_neg (by omega)]))⟩
  · subst h
    exact ⟨hia, nm_r (dm_ue hca) (tail _ _ _ (by rw [a1]) (by rw [dm_ac1, if_neg (by omega)]) (by rw [dm_res, if_pos (by omega)]))⟩
  · subst h
    exact ⟨hia, nm_r (dm_ue hca) (tail _ _ _ (by rw [dm_app2]) (by rw [dm_ac1, if_neg (by omega)]) (by rw [dm_res, if_pos (by omega)]))⟩
  · subst h
    refine br_c (fun g => tail _ _ _ (by rw [dm_app3, if_neg (Int32.not_lt.mpr g), dm_upd_id]) (by rw [dm_ac1, if_neg (by omega)]) (by rw [dm_res, if_pos (by omega)])) (fun g => ⟨hia, nm_r (dm_ue hca) (tail _ _ _ (by rw [dm_app3, if_pos (Int32.not_le.mp g)]) (by rw [dm_ac1, if_neg (by omega)]) (by rw [dm_res, if_pos (by omega)]))⟩)
  · subst h
    exact ⟨hi, nm_r (dm_ue hcl) ⟨hia, nm_r (dm_ue hca) (tail _ _ _ (by rw [a4]) (by rw [dm_ac1, if_pos (by omega), dm_res, if_neg (by omega)]) (by rw [dm_res, if_neg (by omega)]))⟩⟩
  · obtain rfl : kd = 5 := by omega
    refine ⟨hi, ?_⟩
    rw [hcl]
    exact br_c (fun g => ⟨hia, nm_r (dm_ue hca) ⟨hi, nm_r (dm_ue hcl) (tail _ _ _ (by rw [dm_app5, if_pos g]) (by rw [dm_ac1, if_pos (by omega), dm_res, if_neg (by omega)]) (by rw [dm_res, if_neg (by omega)]))⟩⟩) (fun g => ⟨hi, nm_r (dm_ue hcl) (tail _ _ _ (by rw [dm_app5, if_neg g, dm_upd_id]) (by rw [dm_ac1, if_pos (by omega), dm_res, if_neg (by omega)]) (by rw [dm_res, if_neg (by omega)]))⟩)
end
section
variable {cc lc fc M : Nat} {k gr fr d nd : Nat → Nat → Nat} {ac : Nat → Nat → Int} {aw R dI dA cu oc ok oa pf : Nat → Nat} {n nq : Nat → Nat → Nat → Nat} {V : Nat → Nat → Int32} {val : Nat → Int32} {f_msgGetS f_msgGetM f_msgPut f_msgDone f_msgCopyBack f_msgFwdS f_msgFwdM f_msgInv f_msgAck f_msgData f_msgGrant f_msgPutAck f_stFree f_stS f_stE f_stM f_stIS f_stIM f_stSM f_stSI f_stEI f_stMI f_stII f_coreCount f_lineCount f_frameCount f_msgCount f_inType f_inTo f_inLine f_inCore f_inInfo f_inAcks : Int32} {a_opKind a_opAddress a_opOperand a_opResult a_opPerformed a_acc a_closedCount a_nextVictim a_frameLine a_frameState a_frameTarget a_frameAcks a_frameGranted a_frameWords a_memory a_current a_homeOwner a_homeSharers a_homeNextOwner a_homeNextSharers a_homeBusy a_homeAwaits a_queueHead a_queueLength a_queueType a_queueCore a_queueInfo a_queueWords a_msgType a_msgTo a_msgLine a_msgCore a_msgInfo a_msgAcks a_msgWords a_inWords : Nat → Int32} {c : Nat}
theorem dm_ac1_ne {kd : Nat} {acc : Nat → Int32} {r : Int32} {e : Nat} (h : e ≠ c) : dm_ac1 kd acc c r e = acc e := by
  rw [dm_ac1]; split
  · exact pk_un h
  · rfl
theorem dm_x_fin (hX : dm_X cc lc fc k gr ac fr d nd aw n nq R dI dA V oc ok oa pf cu val M a_opKind a_opAddress a_opOperand a_opResult a_opPerformed a_acc a_nextVictim a_frameLine a_frameState a_frameTarget a_frameAcks a_frameGranted a_frameWords a_memory a_current a_homeOwner a_homeSharers a_homeNextOwner a_homeNextSharers a_homeBusy a_homeAwaits a_queueHead a_queueLength a_queueType a_queueCore a_queueInfo a_queueWords a_msgType a_msgTo a_msgLine a_msgCore a_msgInfo a_msgAcks a_msgWords) (hc : c < 4) (ho : oc c = 1) (hf : pf c = 1) :
    dm_X cc lc fc k gr ac fr d nd aw n nq R dI dA V (dm_fu oc c 0) ok oa (dm_fu pf c 0) cu (upd val (oa c) (dm_app (ok c) (a_opOperand c) (a_acc c) (val (oa c)))) M (upd a_opKind c (-1)) a_opAddress a_opOperand a_opResult (upd a_opPerformed c 0) (dm_ac1 (ok c) a_acc c (a_opResult c)) a_nextVictim a_frameLine a_frameState a_frameTarget a_frameAcks a_frameGranted a_frameWords a_memory a_current a_homeOwner a_homeSharers a_homeNextOwner a_homeNextSharers a_homeBusy a_homeAwaits a_queueHead a_queueLength a_queueType a_queueCore a_queueInfo a_queueWords a_msgType a_msgTo a_msgLine a_msgCore a_msgInfo a_msgAcks a_msgWords := by
  obtain ⟨hZ, hF, hH, hM, hQ, hP, hO, hV, hC, hN⟩ := hX
  obtain ⟨o1, o2, o3, o4, o5⟩ := hO c hc
  obtain ⟨p1, p2, p3, p4, p5⟩ := o4 ho
  have hp : ∀ e, e < 4 → e ≠ c → oc e = 1 → oa e = oa c → ok c = ok e ∧ (ok c = 0 ∨ ok c = 2 ∨ ok c = 3) := fun e he hne h1 h2 => hV.2.2 c e hc he (fun z => hne z.symm) ho h1 h2.symm
  refine ⟨hZ, hF, hH, hM, hQ, hP, fun e he => ?_, ⟨fun l i hl hi => ?_, fun e he h1 h2 => ?_, fun x y hx hy hne h1 h2 h3 => ?_⟩, fun l hl => ?_, hN⟩
  · by_cases g : e = c
    · subst g
      rw [dm_fs, dm_fs, pk_us, pk_us]
      exact ⟨by omega, by omega, fun _ => ⟨rfl, rfl⟩, fun z => absurd z (by omega), rfl⟩
    · rw [dm_fn g, dm_fn g, pk_un g, pk_un g]; exact hO e he
  · rw [hV.1 l i hl hi]
    by_cases g : 4 * l + i = oa c
    · rw [g, pk_us]
      exact (dm_fd_fin hc ho hf rfl (fun e h => dm_ac1_ne h) hp).symm
    · rw [pk_un g]
      exact (dm_fd_fin_ne (fun z => g z.symm) (fun e h => dm_ac1_ne h)).symm
  · have g : e ≠ c := fun z => by rw [z, dm_fs] at h1; omega
    rw [dm_fn g] at h1 h2
    rw [hV.2.1 e he h1 h2]
    by_cases g2 : oa e = oa c
    · obtain ⟨q1, q2⟩ := hp e he g h1 g2
      rw [g2, pk_us]
      rcases q2 with q2 | q2 | q2
      · rw [q2, dm_app0]
      · rw [dm_res, dm_res, if_pos (by omega), if_pos (by omega)]
      · rw [dm_res, dm_res, if_pos (by omega), if_pos (by omega)]
    · rw [pk_un g2]
  · have gx : x ≠ c := fun z => by rw [z, dm_fs] at h1; omega
    have gy : y ≠ c := fun z => by rw [z, dm_fs] at h2; omega
    rw [dm_fn gx] at h1
    rw [dm_fn gy] at h2
    exact hV.2.2 x y hx hy hne h1 h2 h3
  · obtain ⟨c1, c2, c3⟩ := hC l hl
    refine ⟨c1, c2, fun z e he h1 h2 => ?_⟩
    have g : e ≠ c := fun z => by rw [z, dm_fs] at h1; omega
    rw [dm_fn g] at h1
    exact c3 z e he h1 h2
end
theorem i_vc_finish {k : Nat} {u : SX} {v : SY} (I : i_Rel k u v) (hk : k + 5 ≤ 2563) (v1 : Int32) (v2 : Int32) : wpX_finish (fun r u' => wpY_finish (fun r' v' => r' = r ∧ i_Rel (k + 5) u' v') v v1 v2) u v1 v2 := by
  refine dm_Rel_el (P := fun u v => wpX_finish (fun r u' => wpY_finish (fun r' v' => r' = r ∧ i_Rel (k + 5) u' v') v v1 v2) u v1 v2) ?_ I
  clear I
  generalize k + 5 = kk
  intro cc lc fc oc ok oa cu k gr ac fr d nd aw n nq R dI dA V pf M f_msgGetS f_msgGetM f_msgPut f_msgDone f_msgCopyBack f_msgFwdS f_msgFwdM f_msgInv f_msgAck f_msgData f_msgGrant f_msgPutAck f_stFree f_stS f_stE f_stM f_stIS f_stIM f_stSM f_stSI f_stEI f_stMI f_stII f_coreCount f_lineCount f_frameCount f_msgCount f_inType f_inTo f_inLine f_inCore f_inInfo f_inAcks a_opKind a_opAddress a_opOperand a_opResult a_opPerformed a_acc a_closedCount a_nextVictim a_frameLine a_frameState a_frameTarget a_frameAcks a_frameGranted a_frameWords a_memory a_current a_homeOwner a_homeSharers a_homeNextOwner a_homeNextSharers a_homeBusy a_homeAwaits a_queueHead a_queueLength a_queueType a_queueCore a_queueInfo a_queueWords a_msgType a_msgTo a_msgLine a_msgCore a_msgInfo a_msgAcks a_msgWords a_inWords y_value y_isOpen y_kindOf y_addressOf hY hX hL hp
  have hZ := hX.1
  unfold wpX_finish
  refine dm_w_isCore hZ.2.1 (fun c hc e => br_f (by decide) ?_) (fun h => br_t rfl ?_)
  · subst e
    have hi : vp_in (nI c) 4 := vp_in_nI (by omega) (by omega)
    have hcl : (nI c).toNatClampNeg = c := nI_clamp (by omega)
    obtain ⟨o1, o2, o3, o4, o5⟩ := hX.2.2.2.2.2.2.1 c (by omega)
    obtain ⟨y1, y2⟩ := hY c (by omega)
    refine ⟨hi, ?_⟩
    rw [hcl]
    by_cases ho : oc c = 1
    · obtain ⟨p1, p2, p3, p4, p5⟩ := o4 ho
      have q := dm_fin_l (post := fun r u' => wpY_finish (fun r' v' => r' = r ∧ i_Rel kk u' v') (nI cc, nI lc, nI fc, y_value, y_isOpen, y_kindOf, y_addressOf, a_opOperand, a_acc, a_closedCount, a_current) (nI c) v2) (p := v2) (show c < 4 by omega) ho ?_ 524 0 (by omega) (f_msgGetS, f_msgGetM, f_msgPut, f_msgDone, f_msgCopyBack, f_msgFwdS, f_msgFwdM, f_msgInv, f_msgAck, f_msgData, f_msgGrant, f_msgPutAck, f_stFree, f_stS, f_stE, f_stM, f_stIS, f_stIM, f_stSM, f_stSI, f_stEI, f_stMI, f_stII, nI cc, nI lc, nI fc, nI M, f_inType, f_inTo, f_inLine, f_inCore, f_inInfo, f_inAcks, a_opKind, a_opAddress, a_opOperand, a_opResult, a_opPerformed, a_acc, a_closedCount, a_nextVictim, a_frameLine, a_frameState, a_frameTarget, a_frameAcks, a_frameGranted, a_frameWords, a_memory, a_current, a_homeOwner, a_homeSharers, a_homeNextOwner, a_homeNextSharers, a_homeBusy, a_homeAwaits, a_queueHead, a_queueLength, a_queueType, a_queueCore, a_queueInfo, a_queueWords, a_msgType, a_msgTo, a_msgLine, a_msgCore, a_msgInfo, a_msgAcks, a_msgWords, a_inWords) (dm_IB0 hX hL hp)
      · exact br_t (by rw [p4]; exact nI_pos' (by omega)) ⟨525, q⟩
      · clear hX hL hp o1 o2 o3 o4 o5 p4 p5
        intro k gr ac fr d nd aw n nq R dI dA V pf M f_msgGetS f_msgGetM f_msgPut f_msgDone f_msgCopyBack f_msgFwdS f_msgFwdM f_msgInv f_msgAck f_msgData f_msgGrant f_msgPutAck f_stFree f_stS f_stE f_stM f_stIS f_stIM f_stSM f_stSI f_stEI f_stMI f_stII f_coreCount f_lineCount f_frameCount f_msgCount f_inType f_inTo f_inLine f_inCore f_inInfo f_inAcks a_opKind a_opAddress a_opOperand a_opResult a_opPerformed a_acc a_closedCount a_nextVictim a_frameLine a_frameState a_frameTarget a_frameAcks a_frameGranted a_frameWords a_memory a_current a_homeOwner a_homeSharers a_homeNextOwner a_homeNextSharers a_homeBusy a_homeAwaits a_queueHead a_queueLength a_queueType a_queueCore a_queueInfo a_queueWords a_msgType a_msgTo a_msgLine a_msgCore a_msgInfo a_msgAcks a_msgWords a_inWords hX hL hp hpf e1 e2 e3 e4
        subst e1 e2 e3 e4
        obtain ⟨o1, o2, o3, o4, o5⟩ := hX.2.2.2.2.2.2.1 c (by omega)
        obtain ⟨p1, p2, p3, p4, p5⟩ := o4 ho
        refine dm_w_fin73 (by omega) p2 p4 (dm_y_fin hZ.2.1 hc p2 (by omega) (by rw [y1, ho]; rfl) (y2 ho).1 (y2 ho).2 ?_)
        have er := hX.2.2.2.2.2.2.2.1.2.1 c (by omega) ho hpf
        rw [← er]
        refine ⟨rfl, dm_Rel_mk (fun e he => ?_) (dm_x_fin hX (by omega) ho hpf) hL (fun e he => ?_)⟩
        · by_cases g : e = c
          · subst g; rw [dm_fs, pk_us]; exact ⟨rfl, fun z => absurd z (by omega)⟩
          · rw [dm_fn g, pk_un g]; exact hY e he
        · by_cases g : e = c
          · intro z; rw [g, dm_fs] at z; omega
          · intro z1 z2
            rw [dm_fn g] at z1 z2
            exact hp e he z1 z2
    · refine br_f (by rw [(o3 (by omega)).1]; decide) ?_
      unfold wpY_finish
      exact dm_y_h0 hZ.2.1 (Or.inr ⟨c, hc, rfl, by rw [y1, show oc c = 0 from by omega]; rfl⟩) (br_t rfl ⟨rfl, dm_Rel_mk hY hX hL hp⟩)
  · unfold wpY_finish
    exact dm_y_h0 hZ.2.1 (Or.inl h) (br_t rfl ⟨rfl, dm_Rel_mk hY hX hL hp⟩)
end
section

/-- an operation would conflict -/
def dm_cf (cc : Nat) (oc ok oa : Nat → Nat) (c kd a : Nat) : Prop := ∃ e, e < cc ∧ e ≠ c ∧ oc e = 1 ∧ oa e = a ∧ ¬ (ok e = kd ∧ (kd = 0 ∨ kd = 2 ∨ kd = 3))
section
variable {cc lc fc M : Nat} {k gr fr d nd : Nat → Nat → Nat} {ac : Nat → Nat → Int} {aw R dI dA cu oc ok oa pf : Nat → Nat} {n nq : Nat → Nat → Nat → Nat} {V : Nat → Nat → Int32} {val : Nat → Int32} {f_msgGetS f_msgGetM f_msgPut f_msgDone f_msgCopyBack f_msgFwdS f_msgFwdM f_msgInv f_msgAck f_msgData f_msgGrant f_msgPutAck f_stFree f_stS f_stE f_stM f_stIS f_stIM f_stSM f_stSI f_stEI f_stMI f_stII f_coreCount f_lineCount f_frameCount f_msgCount f_inType f_inTo f_inLine f_inCore f_inInfo f_inAcks : Int32} {a_opKind a_opAddress a_opOperand a_opResult a_opPerformed a_acc a_closedCount a_nextVictim a_frameLine a_frameState a_frameTarget a_frameAcks a_frameGranted a_frameWords a_memory a_current a_homeOwner a_homeSharers a_homeNextOwner a_homeNextSharers a_homeBusy a_homeAwaits a_queueHead a_queueLength a_queueType a_queueCore a_queueInfo a_queueWords a_msgType a_msgTo a_msgLine a_msgCore a_msgInfo a_msgAcks a_msgWords a_inWords : Nat → Int32} {post : Int32 → Prop} {c kd a : Nat}
theorem dm_w_cf24 {x4 : Nat} (hX : dm_X cc lc fc k gr ac fr d nd aw n nq R dI dA V oc ok oa pf cu val M a_opKind a_opAddress a_opOperand a_opResult a_opPerformed a_acc a_nextVictim a_frameLine a_frameState a_frameTarget a_frameAcks a_frameGranted a_frameWords a_memory a_current a_homeOwner a_homeSharers a_homeNextOwner a_homeNextSharers a_homeBusy a_homeAwaits a_queueHead a_queueLength a_queueType a_queueCore a_queueInfo a_queueWords a_msgType a_msgTo a_msgLine a_msgCore a_msgInfo a_msgAcks a_msgWords) (hc : c < cc) (hkd : kd ≤ 5) (ha : a < 32) (h4 : (x4 = 1 ∧ (kd = 0 ∨ kd = 2 ∨ kd = 3)) ∨ (x4 = 0 ∧ ¬ (kd = 0 ∨ kd = 2 ∨ kd = 3))) (K1 : dm_cf cc oc ok oa c kd a → post 1) (K0 : ¬ dm_cf cc oc ok oa c kd a → post 0) :
    ∀ j i, i + j = cc → (∀ e, e < i → e ≠ c → oc e = 1 → oa e = a → ok e = kd ∧ (kd = 0 ∨ kd = 2 ∨ kd = 3)) → wX_conflicts_24 post (nI c) (nI kd) (nI a) (nI x4) f_msgGetS f_msgGetM f_msgPut f_msgDone f_msgCopyBack f_msgFwdS f_msgFwdM f_msgInv f_msgAck f_msgData f_msgGrant f_msgPutAck f_stFree f_stS f_stE f_stM f_stIS f_stIM f_stSM f_stSI f_stEI f_stMI f_stII (nI cc) (nI lc) (nI fc) (nI M) f_inType f_inTo f_inLine f_inCore f_inInfo f_inAcks a_opKind a_opAddress a_opOperand a_opResult a_opPerformed a_acc a_closedCount a_nextVictim a_frameLine a_frameState a_frameTarget a_frameAcks a_frameGranted a_frameWords a_memory a_current a_homeOwner a_homeSharers a_homeNextOwner a_homeNextSharers a_homeBusy a_homeAwaits a_queueHead a_queueLength a_queueType a_queueCore a_queueInfo a_queueWords a_msgType a_msgTo a_msgLine a_msgCore a_msgInfo a_msgAcks a_msgWords a_inWords (j + 1) (nI i) := by
  have hZ := hX.1
  intro j
  induction j with
  | zero =>
    intro i hi hno
    obtain rfl : i = cc := by omega
    refine br_t (nI_le (Nat.le_refl _) (by omega)) (K0 fun h => ?_)
    obtain ⟨e, h1, h2, h3, h4, h5⟩ := h
    exact h5 (hno e h1 h2 h3 h4)
  | succ j ih =>
    intro i hi hno
    have hv : vp_in (nI i) 4 := vp_in_nI (by omega) (by omega)
    have hcl : (nI i).toNatClampNeg = i := nI_clamp (by omega)
    obtain ⟨o1, o2, o3, o4, o5⟩ := hX.2.2.2.2.2.2.1 i (by omega)
    have next : (i ≠ c → oc i = 1 → oa i = a → ok i = kd ∧ (kd = 0 ∨ kd = 2 ∨ kd = 3)) → wX_conflicts_24 post (nI c) (nI kd) (nI a) (nI x4) f_msgGetS f_msgGetM f_msgPut f_msgDone f_msgCopyBack f_msgFwdS f_msgFwdM f_msgInv f_msgAck f_msgData f_msgGrant f_msgPutAck f_stFree f_stS f_stE f_stM f_stIS f_stIM f_stSM f_stSI f_stEI f_stMI f_stII (nI cc) (nI lc) (nI fc) (nI M) f_inType f_inTo f_inLine f_inCore f_inInfo f_inAcks a_opKind a_opAddress a_opOperand a_opResult a_opPerformed a_acc a_closedCount a_nextVictim a_frameLine a_frameState a_frameTarget a_frameAcks a_frameGranted a_frameWords a_memory a_current a_homeOwner a_homeSharers a_homeNextOwner a_homeNextSharers a_homeBusy a_homeAwaits a_queueHead a_queueLength a_queueType a_queueCore a_queueInfo a_queueWords a_msgType a_msgTo a_msgLine a_msgCore a_msgInfo a_msgAcks a_msgWords a_inWords (j + 1) (nI (i + 1)) := fun h => ih (i + 1) (by omega) fun e he h1 h2 h3 => by
      by_cases g : e = i
      · subst g; exact h h1 h2 h3
      · exact hno e (by omega) h1 h2 h3
    refine br_f (nI_ge (by omega) (by omega)) (pk_eq i c (fun h => nm_r (nI_1 i) (next (fun z => absurd h z))) (fun h => ⟨hv, ?_⟩))
    rw [hcl]
    by_cases ho : oc i = 1
    · obtain ⟨p1, p2, p3, p4, p5⟩ := o4 ho
      rw [p4, p5]
      refine br_f (nI_pos (by omega)) ⟨hv, pk_eq (oa i) a (fun g => pk_eq x4 0 (fun g0 => K1 ⟨i, by omega, h, ho, g, fun z => by omega⟩) (fun g0 => ⟨hv, pk_eq (ok i) kd (fun g2 => nm_r (nI_1 i) (next (fun _ _ _ => ⟨g2, by omega⟩))) (fun g2 => K1 ⟨i, by omega, h, ho, g, fun z => g2 z.1⟩)⟩)) (fun g => nm_r (nI_1 i) (next (fun _ _ z => absurd z g)))⟩
    · rw [(o3 (by omega)).1]
      exact br_t (by decide) (nm_r (nI_1 i) (next (fun _ z => absurd z ho)))
theorem dm_w_cf (hX : dm_X cc lc fc k gr ac fr d nd aw n nq R dI dA V oc ok oa pf cu val M a_opKind a_opAddress a_opOperand a_opResult a_opPerformed a_acc a_nextVictim a_frameLine a_frameState a_frameTarget a_frameAcks a_frameGranted a_frameWords a_memory a_current a_homeOwner a_homeSharers a_homeNextOwner a_homeNextSharers a_homeBusy a_homeAwaits a_queueHead a_queueLength a_queueType a_queueCore a_queueInfo a_queueWords a_msgType a_msgTo a_msgLine a_msgCore a_msgInfo a_msgAcks a_msgWords) (hc : c < cc) (hkd : kd ≤ 5) (ha : a < 32) (K1 : dm_cf cc oc ok oa c kd a → post 1) (K0 : ¬ dm_cf cc oc ok oa c kd a → post 0) : wpX_conflicts post (f_msgGetS, f_msgGetM, f_msgPut, f_msgDone, f_msgCopyBack, f_msgFwdS, f_msgFwdM, f_msgInv, f_msgAck, f_msgData, f_msgGrant, f_msgPutAck, f_stFree, f_stS, f_stE, f_stM, f_stIS, f_stIM, f_stSM, f_stSI, f_stEI, f_stMI, f_stII, nI cc, nI lc, nI fc, nI M, f_inType, f_inTo, f_inLine, f_inCore, f_inInfo, f_inAcks, a_opKind, a_opAddress, a_opOperand, a_opResult, a_opPerformed, a_acc, a_closedCount, a_nextVictim, a_frameLine, a_frameState, a_frameTarget, a_frameAcks, a_frameGranted, a_frameWords, a_memory, a_current, a_homeOwner, a_homeSharers, a_homeNextOwner, a_homeNextSharers, a_homeBusy, a_homeAwaits, a_queueHead, a_queueLength, a_queueType, a_queueCore, a_queueInfo, a_queueWords, a_msgType, a_msgTo, a_msgLine, a_msgCore, a_msgInfo, a_msgAcks, a_msgWords, a_inWords) (nI c) (nI kd) (nI a) := by
  have go1 : (kd = 0 ∨ kd = 2 ∨ kd = 3) → ∃ m, wX_conflicts_24 post (nI c) (nI kd) (nI a) 1 f_msgGetS f_msgGetM f_msgPut f_msgDone f_msgCopyBack f_msgFwdS f_msgFwdM f_msgInv f_msgAck f_msgData f_msgGrant f_msgPutAck f_stFree f_stS f_stE f_stM f_stIS f_stIM f_stSM f_stSI f_stEI f_stMI f_stII (nI cc) (nI lc) (nI fc) (nI M) f_inType f_inTo f_inLine f_inCore f_inInfo f_inAcks a_opKind a_opAddress a_opOperand a_opResult a_opPerformed a_acc a_closedCount a_nextVictim a_frameLine a_frameState a_frameTarget a_frameAcks a_frameGranted a_frameWords a_memory a_current a_homeOwner a_homeSharers a_homeNextOwner a_homeNextSharers a_homeBusy a_homeAwaits a_queueHead a_queueLength a_queueType a_queueCore a_queueInfo a_queueWords a_msgType a_msgTo a_msgLine a_msgCore a_msgInfo a_msgAcks a_msgWords a_inWords m 0 := fun h => ⟨cc + 1, dm_w_cf24 (x4 := 1) hX hc hkd ha (Or.inl ⟨rfl, h⟩) K1 K0 cc 0 (by omega) (fun e he => absurd he (Nat.not_lt_zero e))⟩
  exact pk_eq kd 0 (fun h => go1 (by omega)) fun h0 => pk_eq kd 2 (fun h => go1 (by omega)) fun h2 => pk_eq kd 3 (fun h => go1 (by omega)) fun h3 => ⟨cc + 1, dm_w_cf24 (x4 := 0) hX hc hkd ha (Or.inr ⟨rfl, by omega⟩) K1 K0 cc 0 (by omega) (fun e he => absurd he (Nat.not_lt_zero e))⟩
end
section
variable {y_coreCount y_lineCount y_frameCount : Int32} {y_value y_isOpen y_kindOf y_addressOf y_operandOf y_acc y_finished y_current : Nat → Int32} {post : Int32 → SY → Prop} {cc lc c kd a : Nat} {oc ok oa : Nat → Nat} {x : Int32}
theorem dm_y_b45 (hcc : cc ≤ 4) (hc : c < cc) (hkd : kd ≤ 5) (ha : a < 32) (hY : dm_RY oc ok oa y_isOpen y_kindOf y_addressOf) (hoc : ∀ e, e < 4 → oc e ≤ 1 ∧ (oc e = 1 → ok e ≤ 5 ∧ oa e < 32)) (K1 : dm_cf cc oc ok oa c kd a → post 3 (nI cc, y_lineCount, y_frameCount, y_value, y_isOpen, y_kindOf, y_addressOf, y_operandOf, y_acc, y_finished, y_current))
    (K0 : ¬ dm_cf cc oc ok oa c kd a → post 0 (nI cc, y_lineCount, y_frameCount, y_value, upd y_isOpen c 1, upd y_kindOf c (nI kd), upd y_addressOf c (nI a), upd y_operandOf c x, y_acc, y_finished, if kd = 0 then y_current else upd y_current (a / 4) 0)) :
    ∀ j i, i + j = cc → (∀ e, e < i → e ≠ c → oc e = 1 → oa e = a → ok e = kd ∧ (kd = 0 ∨ kd = 2 ∨ kd = 3)) → wY_begin_45 post (nI c) (nI kd) (nI a) x (nI cc) y_lineCount y_frameCount y_value y_isOpen y_kindOf y_addressOf y_operandOf y_acc y_finished y_current (j + 1) (nI i) := by
  intro j
  induction j with
  | zero =>
    intro i hi hno
    obtain rfl : i = cc := by omega
    have hv : vp_in (nI c) 4 := vp_in_nI (by omega) (by omega)
    have hcl : (nI c).toNatClampNeg = c := nI_clamp (by omega)
    have hncf : ¬ dm_cf i oc ok oa c kd a := fun ⟨e, h1, h2, h3, h4, h5⟩ => h5 (hno e h1 h2 h3 h4)
    have K := K0 hncf
    refine br_t (nI_le (Nat.le_refl _) (by omega)) ⟨hv, nm_r (dm_ub1 hcl) ⟨hv, nm_r (dm_ue hcl) ⟨hv, nm_r (dm_ue hcl) ⟨hv, nm_r (dm_ue hcl) (pk_eq kd 0 (fun h => ?_) (fun h => ⟨by decide, ?_⟩))⟩⟩⟩⟩
    · rw [if_pos h] at K; exact K
    · rw [if_neg h] at K
      rw [dm_div4 ha]
      exact ⟨vp_in_nI (by omega) (by omega), nm_r (dm_ub0 (nI_clamp (by omega))) K⟩
  | succ j ih =>
    intro i hi hno
    have hv : vp_in (nI i) 4 := vp_in_nI (by omega) (by omega)
    have hcl : (nI i).toNatClampNeg = i := nI_clamp (by omega)
    obtain ⟨y1, y2⟩ := hY i (by omega)
    obtain ⟨m1, m2⟩ := hoc i (by omega)
    have next : (i ≠ c → oc i = 1 → oa i = a → ok i = kd ∧ (kd = 0 ∨ kd = 2 ∨ kd = 3)) → wY_begin_45 post (nI c) (nI kd) (nI a) x (nI cc) y_lineCount y_frameCount y_value y_isOpen y_kindOf y_addressOf y_operandOf y_acc y_finished y_current (j + 1) (nI (i + 1)) := fun h => ih (i + 1) (by omega) fun e he h1 h2 h3 => by
      by_cases g : e = i
      · subst g; exact h h1 h2 h3
      · exact hno e (by omega) h1 h2 h3
    refine br_f (nI_ge (by omega) (by omega)) (pk_eq i c (fun h => nm_r (nI_1 i) (next (fun z => absurd h z))) (fun h => ⟨hv, ?_⟩))
    rw [hcl, y1]
    refine pk_eq (oc i) 0 (fun g => nm_r (nI_1 i) (next (fun _ z => absurd z (by omega)))) (fun g => ⟨hv, ?_⟩)
    have ho : oc i = 1 := by omega
    obtain ⟨q1, q2⟩ := m2 ho
    rw [(y2 ho).1, (y2 ho).2]
    refine pk_eq (oa i) a (fun g2 => ⟨hv, ?_⟩) (fun g2 => nm_r (nI_1 i) (next (fun _ _ z => absurd z g2)))
    have cf : ¬ (ok i = kd ∧ (kd = 0 ∨ kd = 2 ∨ kd = 3)) → post 3 (nI cc, y_lineCount, y_frameCount, y_value, y_isOpen, y_kindOf, y_addressOf, y_operandOf, y_acc, y_finished, y_current) := fun z => K1 ⟨i, by omega, h, ho, g2, z⟩
    have ok1 : (kd = 0 ∨ kd = 2 ∨ kd = 3) → ok i = kd → wY_begin_45 post (nI c) (nI kd) (nI a) x (nI cc) y_lineCount y_frameCount y_value y_isOpen y_kindOf y_addressOf y_operandOf y_acc y_finished y_current (j + 1) (nI (i + 1)) := fun z1 z2 => next (fun _ _ _ => ⟨z2, z1⟩)
    exact pk_eq (ok i) kd (fun e => pk_eq (ok i) 0 (fun e2 => br_f (by decide) (nm_r (nI_1 i) (ok1 (by omega) e))) fun e2 => pk_eq (ok i) 2 (fun e3 => br_f (by decide) (nm_r (nI_1 i) (ok1 (by omega) e))) fun e3 => pk_eq (ok i) 3 (fun e4 => br_f (by decide) (nm_r (nI_1 i) (ok1 (by omega) e))) fun e4 => br_t rfl (cf (by omega))) (fun e => br_t rfl (cf (fun z => e z.1)))
end
theorem dm_t_cu0 {k gr d nd : Nat → Nat} {ac : Nat → Int} {aw : Nat} {n nq : Nat → Nat → Nat} {R dI dA cu : Nat} (h : dm_L k gr ac d nd aw n nq R dI dA cu) : dm_L k gr ac d nd aw n nq R dI dA 0 := by
  obtain ⟨⟨hA, hT, hB⟩, hq⟩ := h
  obtain ⟨t1, t2, t3, t4, t5, t6, t7, t8, t9, t10, t11, t12, t13, t14, t15, t16, t17, t18, t19⟩ := hT
  exact ⟨⟨hA, ⟨t1, t2, t3, t4, t5, t6, t7, t8, t9, t10, t11, t12, t13, t14, t15, t16, t17, t18, fun z => absurd z (by decide)⟩, hB⟩, hq⟩
section
variable {cc lc fc M : Nat} {k gr fr d nd : Nat → Nat → Nat} {ac : Nat → Nat → Int} {aw R dI dA cu oc ok oa pf : Nat → Nat} {n nq : Nat → Nat → Nat → Nat} {V : Nat → Nat → Int32} {val : Nat → Int32} {f_msgGetS f_msgGetM f_msgPut f_msgDone f_msgCopyBack f_msgFwdS f_msgFwdM f_msgInv f_msgAck f_msgData f_msgGrant f_msgPutAck f_stFree f_stS f_stE f_stM f_stIS f_stIM f_stSM f_stSI f_stEI f_stMI f_stII f_coreCount f_lineCount f_frameCount f_msgCount f_inType f_inTo f_inLine f_inCore f_inInfo f_inAcks : Int32} {a_opKind a_opAddress a_opOperand a_opResult a_opPerformed a_acc a_closedCount a_nextVictim a_frameLine a_frameState a_frameTarget a_frameAcks a_frameGranted a_frameWords a_memory a_current a_homeOwner a_homeSharers a_homeNextOwner a_homeNextSharers a_homeBusy a_homeAwaits a_queueHead a_queueLength a_queueType a_queueCore a_queueInfo a_queueWords a_msgType a_msgTo a_msgLine a_msgCore a_msgInfo a_msgAcks a_msgWords a_inWords : Nat → Int32} {c kd a : Nat} {x : Int32}
theorem dm_x_begin {cu' : Nat → Nat} {cur : Nat → Int32} (hX : dm_X cc lc fc k gr ac fr d nd aw n nq R dI dA V oc ok oa pf cu val M a_opKind a_opAddress a_opOperand a_opResult a_opPerformed a_acc a_nextVictim a_frameLine a_frameState a_frameTarget a_frameAcks a_frameGranted a_frameWords a_memory a_current a_homeOwner a_homeSharers a_homeNextOwner a_homeNextSharers a_homeBusy a_homeAwaits a_queueHead a_queueLength a_queueType a_queueCore a_queueInfo a_queueWords a_msgType a_msgTo a_msgLine a_msgCore a_msgInfo a_msgAcks a_msgWords) (hL : dm_LL 8 k gr ac d nd aw n nq R dI dA cu) (hc : c < cc) (hkd : kd ≤ 5) (ha : a < 4 * lc) (ho : oc c = 0) (hcf : ¬ dm_cf cc oc ok oa c kd a)
    (hcu : (kd = 0 ∧ cu' = cu ∧ cur = a_current) ∨ (kd ≠ 0 ∧ cu' = dm_fu cu (a / 4) 0 ∧ cur = upd a_current (a / 4) 0)) :
    dm_X cc lc fc k gr ac fr d nd aw n nq R dI dA V (dm_fu oc c 1) (dm_fu ok c kd) (dm_fu oa c a) (dm_fu pf c 0) cu' val M (upd a_opKind c (nI kd)) (upd a_opAddress c (nI a)) (upd a_opOperand c x) (upd a_opResult c 0) (upd a_opPerformed c 0) a_acc a_nextVictim a_frameLine a_frameState a_frameTarget a_frameAcks a_frameGranted a_frameWords a_memory cur a_homeOwner a_homeSharers a_homeNextOwner a_homeNextSharers a_homeBusy a_homeAwaits a_queueHead a_queueLength a_queueType a_queueCore a_queueInfo a_queueWords a_msgType a_msgTo a_msgLine a_msgCore a_msgInfo a_msgAcks a_msgWords ∧ dm_LL 8 k gr ac d nd aw n nq R dI dA cu' := by
  obtain ⟨hZ, hF, hH, hM, hQ, hP, hO, hV, hC, hN⟩ := hX
  have hle : ∀ l, cu' l = cu l ∨ cu' l = 0 := fun l => by
    rcases hcu with ⟨_, e, _⟩ | ⟨_, e, _⟩
    · rw [e]; exact Or.inl rfl
    · rw [e]
      by_cases g : l = a / 4
      · subst g; exact Or.inr dm_fs
      · exact Or.inl (dm_fn g)
  have hc4 : c < 4 := by omega
  have cond : ∀ e A, (dm_fu oc c 1 e = 1 ∧ dm_fu pf c 0 e = 1 ∧ dm_fu oa c a e = A) ↔ (oc e = 1 ∧ pf e = 1 ∧ oa e = A) := fun e A => by
    by_cases g : e = c
    · subst g; rw [dm_fs, dm_fs, ho]; constructor <;> (intro z; omega)
    · rw [dm_fn g, dm_fn g, dm_fn g]
  have fd : ∀ A v, dm_fd (dm_fu oc c 1) (dm_fu ok c kd) (dm_fu oa c a) (dm_fu pf c 0) (upd a_opOperand c x) a_acc A v = dm_fd oc ok oa pf a_opOperand a_acc A v := fun A v => by
    have q : ∀ e w, dm_a1 (dm_fu oc c 1) (dm_fu ok c kd) (dm_fu oa c a) (dm_fu pf c 0) (upd a_opOperand c x) a_acc A e w = dm_a1 oc ok oa pf a_opOperand a_acc A e w := fun e w => by
      by_cases g : oc e = 1 ∧ pf e = 1 ∧ oa e = A
      · rw [dm_a1_do g, dm_a1_do ((cond e A).mpr g)]
        have ge : e ≠ c := fun z => by rw [z, ho] at g; omega
        rw [dm_fn ge, pk_un ge]
      · rw [dm_a1_id g, dm_a1_id (fun z => g ((cond e A).mp z))]
    simp only [dm_fd, q]
  refine ⟨⟨hZ, hF, hH, fun l hl g => ?_, hQ, hP, fun e he => ?_, ⟨fun l i hl hi => ?_, fun e he h1 h2 => ?_, fun s y hs hy hne h1 h2 h3 => ?_⟩, fun l hl => ?_, hN⟩, fun l hl => ?_⟩
  · refine hM l hl ?_
    rcases g with g | g
    · exact Or.inl g
    · rcases hle l with e | e
      · exact Or.inr (by omega)
      · omega
  · by_cases g : e = c
    · subst g
      rw [dm_fs, dm_fs, dm_fs, dm_fs, pk_us, pk_us, pk_us]
      exact ⟨by omega, by omega, fun z => absurd z (by omega), fun _ => ⟨hc, hkd, ha, rfl, rfl⟩, rfl⟩
    · rw [dm_fn g, dm_fn g, dm_fn g, dm_fn g, pk_un g, pk_un g, pk_un g]; exact hO e he
  · rw [fd]; exact hV.1 l i hl hi
  · have g : e ≠ c := fun z => by rw [z, dm_fs] at h2; omega
    rw [dm_fn g] at h1 h2
    rw [pk_un g, pk_un g, dm_fn g, dm_fn g]
    exact hV.2.1 e he h1 h2
  · have key : ∀ e, e < 4 → e ≠ c → oc e = 1 → oa e = a → ok e = kd ∧ (kd = 0 ∨ kd = 2 ∨ kd = 3) := fun e he g h1 h2 => Classical.byContradiction fun z => hcf ⟨e, ((hO e he).2.2.2.1 h1).1, g, h1, h2, z⟩
    by_cases gs : s = c
    · subst gs
      have gy : y ≠ s := fun z => hne z.symm
      rw [dm_fs, dm_fn gy] at h3
      rw [dm_fn gy] at h2
      rw [dm_fs, dm_fn gy]
      have := key y hy gy h2 h3.symm
      exact ⟨this.1.symm, this.2⟩
    · by_cases gy : y = c
      · subst gy
        rw [dm_fn gs, dm_fs] at h3
        rw [dm_fn gs] at h1
        rw [dm_fs, dm_fn gs]
        have := key s hs gs h1 h3
        exact ⟨this.1, by rw [this.1]; exact this.2⟩
      · rw [dm_fn gs, dm_fn gy] at h3
        rw [dm_fn gs] at h1
        rw [dm_fn gy] at h2
        rw [dm_fn gs, dm_fn gy]
        exact hV.2.2 s y hs hy hne h1 h2 h3
  · obtain ⟨c1, c2, c3⟩ := hC l hl
    rcases hcu with ⟨hk0, rfl, rfl⟩ | ⟨hk0, rfl, rfl⟩
    · refine ⟨c1, c2, fun z e he h1 h2 => ?_⟩
      by_cases g : e = c
      · subst g; rw [dm_fs]; exact hk0
      · rw [dm_fn g] at h1 h2 ⊢; exact c3 z e he h1 h2
    · by_cases gl : l = a / 4
      · subst gl
        rw [dm_fs, pk_us]
        exact ⟨by omega, rfl, fun z => absurd z (by omega)⟩
      · rw [dm_fn gl, pk_un gl]
        refine ⟨c1, c2, fun z e he h1 h2 => ?_⟩
        by_cases g : e = c
        · subst g; rw [dm_fs] at h2; exact absurd h2.symm gl
        · rw [dm_fn g] at h1 h2 ⊢; exact c3 z e he h1 h2
  · rcases hle l with e | e
    · rw [e]; exact hL l hl
    · rw [e]; exact dm_t_cu0 (hL l hl)
end
theorem i_vc_begin {k : Nat} {u : SX} {v : SY} (I : i_Rel k u v) (hk : k + 5 ≤ 2563) (v1 : Int32) (v2 : Int32) (v3 : Int32) (v4 : Int32) : wpX_begin (fun r u' => wpY_begin (fun r' v' => r' = r ∧ i_Rel (k + 5) u' v') v v1 v2 v3 v4) u v1 v2 v3 v4 := by
  refine dm_Rel_el (P := fun u v => wpX_begin (fun r u' => wpY_begin (fun r' v' => r' = r ∧ i_Rel (k + 5) u' v') v v1 v2 v3 v4) u v1 v2 v3 v4) ?_ I
  clear I
  generalize k + 5 = kk
  intro cc lc fc oc ok oa cu k gr ac fr d nd aw n nq R dI dA V pf M f_msgGetS f_msgGetM f_msgPut f_msgDone f_msgCopyBack f_msgFwdS f_msgFwdM f_msgInv f_msgAck f_msgData f_msgGrant f_msgPutAck f_stFree f_stS f_stE f_stM f_stIS f_stIM f_stSM f_stSI f_stEI f_stMI f_stII f_coreCount f_lineCount f_frameCount f_msgCount f_inType f_inTo f_inLine f_inCore f_inInfo f_inAcks a_opKind a_opAddress a_opOperand a_opResult a_opPerformed a_acc a_closedCount a_nextVictim a_frameLine a_frameState a_frameTarget a_frameAcks a_frameGranted a_frameWords a_memory a_current a_homeOwner a_homeSharers a_homeNextOwner a_homeNextSharers a_homeBusy a_homeAwaits a_queueHead a_queueLength a_queueType a_queueCore a_queueInfo a_queueWords a_msgType a_msgTo a_msgLine a_msgCore a_msgInfo a_msgAcks a_msgWords a_inWords y_value y_isOpen y_kindOf y_addressOf hY hX hL hp
  have hZ := hX.1
  have RR : i_Rel kk (f_msgGetS, f_msgGetM, f_msgPut, f_msgDone, f_msgCopyBack, f_msgFwdS, f_msgFwdM, f_msgInv, f_msgAck, f_msgData, f_msgGrant, f_msgPutAck, f_stFree, f_stS, f_stE, f_stM, f_stIS, f_stIM, f_stSM, f_stSI, f_stEI, f_stMI, f_stII, nI cc, nI lc, nI fc, nI M, f_inType, f_inTo, f_inLine, f_inCore, f_inInfo, f_inAcks, a_opKind, a_opAddress, a_opOperand, a_opResult, a_opPerformed, a_acc, a_closedCount, a_nextVictim, a_frameLine, a_frameState, a_frameTarget, a_frameAcks, a_frameGranted, a_frameWords, a_memory, a_current, a_homeOwner, a_homeSharers, a_homeNextOwner, a_homeNextSharers, a_homeBusy, a_homeAwaits, a_queueHead, a_queueLength, a_queueType, a_queueCore, a_queueInfo, a_queueWords, a_msgType, a_msgTo, a_msgLine, a_msgCore, a_msgInfo, a_msgAcks, a_msgWords, a_inWords) (nI cc, nI lc, nI fc, y_value, y_isOpen, y_kindOf, y_addressOf, a_opOperand, a_acc, a_closedCount, a_current) := dm_Rel_mk hY hX hL hp
  unfold wpX_begin
  refine dm_w_isCore hZ.2.1 (fun c hc e => br_f (by decide) ?_) (fun h => br_t rfl ?_)
  · subst e
    have hi : vp_in (nI c) 4 := vp_in_nI (by omega) (by omega)
    have hcl : (nI c).toNatClampNeg = c := nI_clamp (by omega)
    obtain ⟨o1, o2, o3, o4, o5⟩ := hX.2.2.2.2.2.2.1 c (by omega)
    obtain ⟨y1, y2⟩ := hY c (by omega)
    refine br_c (fun hlo => ?_) (fun hlo => br_c (fun hhi => ?_) (fun hhi => ?_))
    · unfold wpY_begin
      exact dm_y_c1 hZ.2.1 hc (br_f (by decide) (br_t hlo ⟨rfl, RR⟩))
    · obtain ⟨kd, hkd, rfl⟩ := nI_of2 (M := 5) (n := 5) (by decide) hlo hhi
      refine dm_w_isAddress hZ.2.2.2.1 (fun a ha e => br_f (by decide) ⟨hi, ?_⟩) (fun h => br_t rfl ?_)
      · subst e
        rw [hcl]
        by_cases ho : oc c = 1
        · refine br_f (by rw [(o4 ho).2.2.2.1]; exact nI_pos (by have := (o4 ho).2.1; omega)) ?_
          unfold wpY_begin
          refine dm_y_c1 hZ.2.1 hc (br_f (by decide) (br_f hlo (br_t hhi ?_)))
          exact dm_y_a1 hZ.2.2.2.1 ha (br_f (by decide) ⟨hi, br_f (by rw [hcl, y1, ho]; decide) ⟨rfl, RR⟩⟩)
        · have ho0 : oc c = 0 := by omega
          have yopen : y_isOpen (nI c).toNatClampNeg = 0 := by rw [hcl, y1, ho0]; rfl
          have hoc : ∀ e, e < 4 → oc e ≤ 1 ∧ (oc e = 1 → ok e ≤ 5 ∧ oa e < 32) := fun e he => by
            have q := hX.2.2.2.2.2.2.1 e he
            refine ⟨q.1, fun z => ?_⟩
            have := q.2.2.2.1 z
            omega
          have Yw : ∀ (post : Int32 → SY → Prop), (dm_cf cc oc ok oa c kd a → post 3 (nI cc, nI lc, nI fc, y_value, y_isOpen, y_kindOf, y_addressOf, a_opOperand, a_acc, a_closedCount, a_current)) → (¬ dm_cf cc oc ok oa c kd a → post 0 (nI cc, nI lc, nI fc, y_value, upd y_isOpen c 1, upd y_kindOf c (nI kd), upd y_addressOf c (nI a), upd a_opOperand c v4, a_acc, a_closedCount, if kd = 0 then a_current else upd a_current (a / 4) 0)) → wpY_begin post (nI cc, nI lc, nI fc, y_value, y_isOpen, y_kindOf, y_addressOf, a_opOperand, a_acc, a_closedCount, a_current) (nI c) (nI kd) (nI a) v4 := fun post K1 K0 => by
            unfold wpY_begin
            refine dm_y_c1 hZ.2.1 hc (br_f (by decide) (br_f hlo (br_t hhi ?_)))
            exact dm_y_a1 hZ.2.2.2.1 ha (br_f (by decide) ⟨hi, br_t yopen ⟨cc + 1, dm_y_b45 hZ.2.1 hc hkd (by omega) hY hoc K1 K0 cc 0 (by omega) (fun e he => absurd he (Nat.not_lt_zero e))⟩⟩)
          refine br_t (by rw [(o3 ho0).1]; decide) (dm_w_cf hX hc hkd (by omega) (fun hcf => br_f (by decide) ?_) (fun hcf => br_t rfl ⟨hi, nm_e ⟨hi, nm_e ⟨hi, nm_e ⟨hi, nm_e ⟨hi, nm_r (show upd a_opPerformed c (vp_nar .boolean 0) = upd a_opPerformed c 0 from rfl) ?_⟩⟩⟩⟩⟩))
          · exact Yw _ (fun _ => ⟨rfl, RR⟩) (fun z => absurd hcf z)
          · have fin : ∀ (cu' : Nat → Nat) (cur : Nat → Int32), (kd = 0 ∧ cu' = cu ∧ cur = a_current) ∨ (kd ≠ 0 ∧ cu' = dm_fu cu (a / 4) 0 ∧ cur = upd a_current (a / 4) 0) → wX_begin_103 (fun r u' => wpY_begin (fun r' v' => r' = r ∧ i_Rel kk u' v') (nI cc, nI lc, nI fc, y_value, y_isOpen, y_kindOf, y_addressOf, a_opOperand, a_acc, a_closedCount, a_current) (nI c) (nI kd) (nI a) v4) (nI c) f_msgGetS f_msgGetM f_msgPut f_msgDone f_msgCopyBack f_msgFwdS f_msgFwdM f_msgInv f_msgAck f_msgData f_msgGrant f_msgPutAck f_stFree f_stS f_stE f_stM f_stIS f_stIM f_stSM f_stSI f_stEI f_stMI f_stII (nI cc) (nI lc) (nI fc) (nI M) f_inType f_inTo f_inLine f_inCore f_inInfo f_inAcks (upd a_opKind c (nI kd)) (upd a_opAddress c (nI a)) (upd a_opOperand c v4) (upd a_opResult c 0) (upd a_opPerformed c 0) a_acc a_closedCount a_nextVictim a_frameLine a_frameState a_frameTarget a_frameAcks a_frameGranted a_frameWords a_memory cur a_homeOwner a_homeSharers a_homeNextOwner a_homeNextSharers a_homeBusy a_homeAwaits a_queueHead a_queueLength a_queueType a_queueCore a_queueInfo a_queueWords a_msgType a_msgTo a_msgLine a_msgCore a_msgInfo a_msgAcks a_msgWords a_inWords := fun cu' cur hcu => by
              obtain ⟨hX', hL'⟩ := dm_x_begin (x := v4) hX hL hc hkd ha ho0 hcf hcu
              unfold wX_begin_103
              have hI : dm_IA cc lc fc (dm_fu oc c 1) (dm_fu ok c kd) (dm_fu oa c a) cu' y_value a_acc (upd a_opOperand c v4) a_closedCount cur 8 600 c (f_msgGetS, f_msgGetM, f_msgPut, f_msgDone, f_msgCopyBack, f_msgFwdS, f_msgFwdM, f_msgInv, f_msgAck, f_msgData, f_msgGrant, f_msgPutAck, f_stFree, f_stS, f_stE, f_stM, f_stIS, f_stIM, f_stSM, f_stSI, f_stEI, f_stMI, f_stII, nI cc, nI lc, nI fc, nI M, f_inType, f_inTo, f_inLine, f_inCore, f_inInfo, f_inAcks, upd a_opKind c (nI kd), upd a_opAddress c (nI a), upd a_opOperand c v4, upd a_opResult c 0, upd a_opPerformed c 0, a_acc, a_closedCount, a_nextVictim, a_frameLine, a_frameState, a_frameTarget, a_frameAcks, a_frameGranted, a_frameWords, a_memory, cur, a_homeOwner, a_homeSharers, a_homeNextOwner, a_homeNextSharers, a_homeBusy, a_homeAwaits, a_queueHead, a_queueLength, a_queueType, a_queueCore, a_queueInfo, a_queueWords, a_msgType, a_msgTo, a_msgLine, a_msgCore, a_msgInfo, a_msgAcks, a_msgWords, a_inWords) := by
                refine dm_IA_mk (b := 11) hX' hL' (fun e he hne => ?_) (fun _ _ => ⟨fun _ => by omega, fun _ _ _ => by omega, fun _ _ => by omega, fun _ _ => by omega, fun _ => by omega⟩) ?_ (fun e he => Or.inl (hX.2.1.1 8 e (by omega))) rfl rfl rfl rfl
                · intro z1 z2
                  rw [dm_fn hne] at z1 z2
                  have q := hp e he z1 z2
                  rw [dm_fn hne, dm_fn hne]
                  exact q
                · have h1 := dm_Phi_le hL
                  have q : ∀ e, dm_Psi (dm_fu oc c 1) (dm_fu ok c kd) (dm_fu oa c a) (dm_fu pf c 0) k e ≤ 11 := fun e => by
                    simp only [dm_Psi, dm_psi]; split <;> (try split) <;> (try split) <;> omega
                  have h2 : dm_s4 (dm_fu (dm_Psi (dm_fu oc c 1) (dm_fu ok c kd) (dm_fu oa c a) (dm_fu pf c 0) k) c 11) ≤ 44 := by
                    have g : ∀ e, dm_fu (dm_Psi (dm_fu oc c 1) (dm_fu ok c kd) (dm_fu oa c a) (dm_fu pf c 0) k) c 11 e ≤ 11 := fun e => by
                      by_cases g : e = c
                      · subst g; rw [dm_fs]; omega
                      · rw [dm_fn g]; exact q e
                    have := g 0
                    have := g 1
                    have := g 2
                    have := g 3
                    rw [dm_s4]; omega
                  omega
              refine dm_pursue hI hc (dm_hg8 hZ.2.2.2.1 hX'.2.2.2.2.2.2.1) (fun u' hB => ?_)
              refine Yw _ (fun z => absurd z hcf) (fun _ => ⟨rfl, ?_⟩)
              have ecur : (if kd = 0 then a_current else upd a_current (a / 4) 0) = cur := by
                rcases hcu with ⟨e1, _, e2⟩ | ⟨e1, _, e2⟩
                · rw [if_pos e1, e2]
                · rw [if_neg e1, e2]
              rw [ecur]
              refine dm_Rel_IB (fun e he => ?_) (dm_IB_N (Nat.le_refl _) hB)
              by_cases g : e = c
              · subst g; rw [dm_fs, dm_fs, dm_fs, pk_us, pk_us, pk_us]; exact ⟨rfl, fun _ => ⟨rfl, rfl⟩⟩
              · rw [dm_fn g, dm_fn g, dm_fn g, pk_un g, pk_un g, pk_un g]; exact hY e he
            refine pk_eq kd 0 (fun h => fin cu a_current (Or.inl ⟨h, rfl, rfl⟩)) (fun h => ⟨by decide, ?_⟩)
            rw [dm_div4 (by omega)]
            exact ⟨vp_in_nI (by omega) (by omega), nm_r (dm_ub0 (nI_clamp (by omega))) (fin _ _ (Or.inr ⟨h, rfl, rfl⟩))⟩
      · unfold wpY_begin
        refine dm_y_c1 hZ.2.1 hc (br_f (by decide) (br_f hlo (br_t hhi ?_)))
        exact dm_y_a0 hZ.2.2.2.1 h (br_t rfl ⟨rfl, RR⟩)
    · unfold wpY_begin
      exact dm_y_c1 hZ.2.1 hc (br_f (by decide) (br_f hlo (br_f hhi ⟨rfl, RR⟩)))
  · unfold wpY_begin
    exact dm_y_c0 hZ.2.1 h (br_t rfl ⟨rfl, RR⟩)
end
section

def dm_IQ (cc lc fc : Nat) (oc ok oa cu : Nat → Nat) (val y_acc y_opn y_fin y_cur : Nat → Int32) (Q : (Nat → Nat → Nat) → Prop) (u : SX) : Prop := match u with
  | (f_msgGetS, f_msgGetM, f_msgPut, f_msgDone, f_msgCopyBack, f_msgFwdS, f_msgFwdM, f_msgInv, f_msgAck, f_msgData, f_msgGrant, f_msgPutAck, f_stFree, f_stS, f_stE, f_stM, f_stIS, f_stIM, f_stSM, f_stSI, f_stEI, f_stMI, f_stII, f_coreCount, f_lineCount, f_frameCount, f_msgCount, f_inType, f_inTo, f_inLine, f_inCore, f_inInfo, f_inAcks, a_opKind, a_opAddress, a_opOperand, a_opResult, a_opPerformed, a_acc, a_closedCount, a_nextVictim, a_frameLine, a_frameState, a_frameTarget, a_frameAcks, a_frameGranted, a_frameWords, a_memory, a_current, a_homeOwner, a_homeSharers, a_homeNextOwner, a_homeNextSharers, a_homeBusy, a_homeAwaits, a_queueHead, a_queueLength, a_queueType, a_queueCore, a_queueInfo, a_queueWords, a_msgType, a_msgTo, a_msgLine, a_msgCore, a_msgInfo, a_msgAcks, a_msgWords, a_inWords) => ∃ (k gr : Nat → Nat → Nat) (ac : Nat → Nat → Int) (fr d nd : Nat → Nat → Nat) (aw : Nat → Nat) (n nq : Nat → Nat → Nat → Nat) (R dI dA : Nat → Nat) (V : Nat → Nat → Int32) (pf : Nat → Nat) (M : Nat), f_coreCount = nI cc ∧ f_lineCount = nI lc ∧ f_frameCount = nI fc ∧ f_msgCount = nI M ∧ a_acc = y_acc ∧ a_opOperand = y_opn ∧ a_closedCount = y_fin ∧ a_current = y_cur ∧ dm_X cc lc fc k gr ac fr d nd aw n nq R dI dA V oc ok oa pf cu val M a_opKind a_opAddress a_opOperand a_opResult a_opPerformed a_acc a_nextVictim a_frameLine a_frameState a_frameTarget a_frameAcks a_frameGranted a_frameWords a_memory a_current a_homeOwner a_homeSharers a_homeNextOwner a_homeNextSharers a_homeBusy a_homeAwaits a_queueHead a_queueLength a_queueType a_queueCore a_queueInfo a_queueWords a_msgType a_msgTo a_msgLine a_msgCore a_msgInfo a_msgAcks a_msgWords ∧ dm_LL 8 k gr ac d nd aw n nq R dI dA cu ∧ (∀ e, e < 4 → dm_PU fc oc ok oa pf k a_frameLine e) ∧ Q k
section
variable {cc lc fc : Nat} {oc ok oa cu : Nat → Nat} {val y_acc y_opn y_fin y_cur : Nat → Int32} {k gr fr d nd : Nat → Nat → Nat} {ac : Nat → Nat → Int} {aw R dI dA pf : Nat → Nat} {n nq : Nat → Nat → Nat → Nat} {V : Nat → Nat → Int32} {M : Nat} {Q : (Nat → Nat → Nat) → Prop} {f_msgGetS f_msgGetM f_msgPut f_msgDone f_msgCopyBack f_msgFwdS f_msgFwdM f_msgInv f_msgAck f_msgData f_msgGrant f_msgPutAck f_stFree f_stS f_stE f_stM f_stIS f_stIM f_stSM f_stSI f_stEI f_stMI f_stII f_coreCount f_lineCount f_frameCount f_msgCount f_inType f_inTo f_inLine f_inCore f_inInfo f_inAcks : Int32} {a_opKind a_opAddress a_opOperand a_opResult a_opPerformed a_acc a_closedCount a_nextVictim a_frameLine a_frameState a_frameTarget a_frameAcks a_frameGranted a_frameWords a_memory a_current a_homeOwner a_homeSharers a_homeNextOwner a_homeNextSharers a_homeBusy a_homeAwaits a_queueHead a_queueLength a_queueType a_queueCore a_queueInfo a_queueWords a_msgType a_msgTo a_msgLine a_msgCore a_msgInfo a_msgAcks a_msgWords a_inWords : Nat → Int32}
theorem dm_IQ_mk (hX : dm_X cc lc fc k gr ac fr d nd aw n nq R dI dA V oc ok oa pf cu val M a_opKind a_opAddress a_opOperand a_opResult a_opPerformed a_acc a_nextVictim a_frameLine a_frameState a_frameTarget a_frameAcks a_frameGranted a_frameWords a_memory a_current a_homeOwner a_homeSharers a_homeNextOwner a_homeNextSharers a_homeBusy a_homeAwaits a_queueHead a_queueLength a_queueType a_queueCore a_queueInfo a_queueWords a_msgType a_msgTo a_msgLine a_msgCore a_msgInfo a_msgAcks a_msgWords) (hL : dm_LL 8 k gr ac d nd aw n nq R dI dA cu) (hp : ∀ e, e < 4 → dm_PU fc oc ok oa pf k a_frameLine e) (hq : Q k)
    (e1 : a_acc = y_acc) (e2 : a_opOperand = y_opn) (e3 : a_closedCount = y_fin) (e4 : a_current = y_cur) : dm_IQ cc lc fc oc ok oa cu val y_acc y_opn y_fin y_cur Q (f_msgGetS, f_msgGetM, f_msgPut, f_msgDone, f_msgCopyBack, f_msgFwdS, f_msgFwdM, f_msgInv, f_msgAck, f_msgData, f_msgGrant, f_msgPutAck, f_stFree, f_stS, f_stE, f_stM, f_stIS, f_stIM, f_stSM, f_stSI, f_stEI, f_stMI, f_stII, nI cc, nI lc, nI fc, nI M, f_inType, f_inTo, f_inLine, f_inCore, f_inInfo, f_inAcks, a_opKind, a_opAddress, a_opOperand, a_opResult, a_opPerformed, a_acc, a_closedCount, a_nextVictim, a_frameLine, a_frameState, a_frameTarget, a_frameAcks, a_frameGranted, a_frameWords, a_memory, a_current, a_homeOwner, a_homeSharers, a_homeNextOwner, a_homeNextSharers, a_homeBusy, a_homeAwaits, a_queueHead, a_queueLength, a_queueType, a_queueCore, a_queueInfo, a_queueWords, a_msgType, a_msgTo, a_msgLine, a_msgCore, a_msgInfo, a_msgAcks, a_msgWords, a_inWords) :=
  ⟨k, gr, ac, fr, d, nd, aw, n, nq, R, dI, dA, V, pf, M, rfl, rfl, rfl, rfl, e1, e2, e3, e4, hX, hL, hp, hq⟩
end
theorem dm_IQ_el {cc lc fc : Nat} {oc ok oa cu : Nat → Nat} {val y_acc y_opn y_fin y_cur : Nat → Int32} {Q : (Nat → Nat → Nat) → Prop} {P : SX → Prop} (h : ∀ (k gr : Nat → Nat → Nat) (ac : Nat → Nat → Int) (fr d nd : Nat → Nat → Nat) (aw : Nat → Nat) (n nq : Nat → Nat → Nat → Nat) (R dI dA : Nat → Nat) (V : Nat → Nat → Int32) (pf : Nat → Nat) (M : Nat) (f_msgGetS f_msgGetM f_msgPut f_msgDone f_msgCopyBack f_msgFwdS f_msgFwdM f_msgInv f_msgAck f_msgData f_msgGrant f_msgPutAck f_stFree f_stS f_stE f_stM f_stIS f_stIM f_stSM f_stSI f_stEI f_stMI f_stII f_coreCount f_lineCount f_frameCount f_msgCount f_inType f_inTo f_inLine f_inCore f_inInfo f_inAcks : Int32) (a_opKind a_opAddress a_opOperand a_opResult a_opPerformed a_acc a_closedCount a_nextVictim a_frameLine a_frameState a_frameTarget a_frameAcks a_frameGranted a_frameWords a_memory a_current a_homeOwner a_homeSharers a_homeNextOwner a_homeNextSharers a_homeBusy a_homeAwaits a_queueHead a_queueLength a_queueType a_queueCore a_queueInfo a_queueWords a_msgType a_msgTo a_msgLine a_msgCore a_msgInfo a_msgAcks a_msgWords a_inWords : Nat → Int32), dm_X cc lc fc k gr ac fr d nd aw n nq R dI dA V oc ok oa pf cu val M a_opKind a_opAddress a_opOperand a_opResult a_opPerformed a_acc a_nextVictim a_frameLine a_frameState a_frameTarget a_frameAcks a_frameGranted a_frameWords a_memory a_current a_homeOwner a_homeSharers a_homeNextOwner a_homeNextSharers a_homeBusy a_homeAwaits a_queueHead a_queueLength a_queueType a_queueCore a_queueInfo a_queueWords a_msgType a_msgTo a_msgLine a_msgCore a_msgInfo a_msgAcks a_msgWords → dm_LL 8 k gr ac d nd aw n nq R dI dA cu → (∀ e, e < 4 → dm_PU fc oc ok oa pf k a_frameLine e) → Q k → a_acc = y_acc → a_opOperand = y_opn → a_closedCount = y_fin → a_current = y_cur → P (f_msgGetS, f_msgGetM, f_msgPut, f_msgDone, f_msgCopyBack, f_msgFwdS, f_msgFwdM, f_msgInv, f_msgAck, f_msgData, f_msgGrant, f_msgPutAck, f_stFree, f_stS, f_stE, f_stM, f_stIS, f_stIM, f_stSM, f_stSI, f_stEI, f_stMI, f_stII, nI cc, nI lc, nI fc, nI M, f_inType, f_inTo, f_inLine, f_inCore, f_inInfo, f_inAcks, a_opKind, a_opAddress, a_opOperand, a_opResult, a_opPerformed, a_acc, a_closedCount, a_nextVictim, a_frameLine, a_frameState, a_frameTarget, a_frameAcks, a_frameGranted, a_frameWords, a_memory, a_current, a_homeOwner, a_homeSharers, a_homeNextOwner, a_homeNextSharers, a_homeBusy, a_homeAwaits, a_queueHead, a_queueLength, a_queueType, a_queueCore, a_queueInfo, a_queueWords, a_msgType, a_msgTo, a_msgLine, a_msgCore, a_msgInfo, a_msgAcks, a_msgWords, a_inWords)) {u : SX} (I : dm_IQ cc lc fc oc ok oa cu val y_acc y_opn y_fin y_cur Q u) : P u := by
  revert I
  refine dm_el (P := fun u => dm_IQ cc lc fc oc ok oa cu val y_acc y_opn y_fin y_cur Q u → P u) ?_ u
  intro f_msgGetS f_msgGetM f_msgPut f_msgDone f_msgCopyBack f_msgFwdS f_msgFwdM f_msgInv f_msgAck f_msgData f_msgGrant f_msgPutAck f_stFree f_stS f_stE f_stM f_stIS f_stIM f_stSM f_stSI f_stEI f_stMI f_stII f_coreCount f_lineCount f_frameCount f_msgCount f_inType f_inTo f_inLine f_inCore f_inInfo f_inAcks a_opKind a_opAddress a_opOperand a_opResult a_opPerformed a_acc a_closedCount a_nextVictim a_frameLine a_frameState a_frameTarget a_frameAcks a_frameGranted a_frameWords a_memory a_current a_homeOwner a_homeSharers a_homeNextOwner a_homeNextSharers a_homeBusy a_homeAwaits a_queueHead a_queueLength a_queueType a_queueCore a_queueInfo a_queueWords a_msgType a_msgTo a_msgLine a_msgCore a_msgInfo a_msgAcks a_msgWords a_inWords
  rintro ⟨k, gr, ac, fr, d, nd, aw, n, nq, R, dI, dA, V, pf, M, e1, e2, e3, e4, e5, e6, e7, e8, hX, hL, hp, hq⟩
  have := h k gr ac fr d nd aw n nq R dI dA V pf M f_msgGetS f_msgGetM f_msgPut f_msgDone f_msgCopyBack f_msgFwdS f_msgFwdM f_msgInv f_msgAck f_msgData f_msgGrant f_msgPutAck f_stFree f_stS f_stE f_stM f_stIS f_stIM f_stSM f_stSI f_stEI f_stMI f_stII f_coreCount f_lineCount f_frameCount f_msgCount f_inType f_inTo f_inLine f_inCore f_inInfo f_inAcks a_opKind a_opAddress a_opOperand a_opResult a_opPerformed a_acc a_closedCount a_nextVictim a_frameLine a_frameState a_frameTarget a_frameAcks a_frameGranted a_frameWords a_memory a_current a_homeOwner a_homeSharers a_homeNextOwner a_homeNextSharers a_homeBusy a_homeAwaits a_queueHead a_queueLength a_queueType a_queueCore a_queueInfo a_queueWords a_msgType a_msgTo a_msgLine a_msgCore a_msgInfo a_msgAcks a_msgWords a_inWords hX hL hp hq e5 e6 e7 e8
  rw [← e1, ← e2, ← e3, ← e4] at this
  exact this
def dm_BHu (post : SX → Prop) (x1 x2 : Int32) (m : Nat) (x : Int32) (u : SX) : Prop := match u with
  | (f_msgGetS, f_msgGetM, f_msgPut, f_msgDone, f_msgCopyBack, f_msgFwdS, f_msgFwdM, f_msgInv, f_msgAck, f_msgData, f_msgGrant, f_msgPutAck, f_stFree, f_stS, f_stE, f_stM, f_stIS, f_stIM, f_stSM, f_stSI, f_stEI, f_stMI, f_stII, f_coreCount, f_lineCount, f_frameCount, f_msgCount, f_inType, f_inTo, f_inLine, f_inCore, f_inInfo, f_inAcks, a_opKind, a_opAddress, a_opOperand, a_opResult, a_opPerformed, a_acc, a_closedCount, a_nextVictim, a_frameLine, a_frameState, a_frameTarget, a_frameAcks, a_frameGranted, a_frameWords, a_memory, a_current, a_homeOwner, a_homeSharers, a_homeNextOwner, a_homeNextSharers, a_homeBusy, a_homeAwaits, a_queueHead, a_queueLength, a_queueType, a_queueCore, a_queueInfo, a_queueWords, a_msgType, a_msgTo, a_msgLine, a_msgCore, a_msgInfo, a_msgAcks, a_msgWords, a_inWords) => wX_bringHome_7 post x1 x2 m x f_msgGetS f_msgGetM f_msgPut f_msgDone f_msgCopyBack f_msgFwdS f_msgFwdM f_msgInv f_msgAck f_msgData f_msgGrant f_msgPutAck f_stFree f_stS f_stE f_stM f_stIS f_stIM f_stSM f_stSI f_stEI f_stMI f_stII f_coreCount f_lineCount f_frameCount f_msgCount f_inType f_inTo f_inLine f_inCore f_inInfo f_inAcks a_opKind a_opAddress a_opOperand a_opResult a_opPerformed a_acc a_closedCount a_nextVictim a_frameLine a_frameState a_frameTarget a_frameAcks a_frameGranted a_frameWords a_memory a_current a_homeOwner a_homeSharers a_homeNextOwner a_homeNextSharers a_homeBusy a_homeAwaits a_queueHead a_queueLength a_queueType a_queueCore a_queueInfo a_queueWords a_msgType a_msgTo a_msgLine a_msgCore a_msgInfo a_msgAcks a_msgWords a_inWords
def dm_BHe (post : SX → Prop) (l : Int32) (u : SX) : Prop := match u with
  | (f_msgGetS, f_msgGetM, f_msgPut, f_msgDone, f_msgCopyBack, f_msgFwdS, f_msgFwdM, f_msgInv, f_msgAck, f_msgData, f_msgGrant, f_msgPutAck, f_stFree, f_stS, f_stE, f_stM, f_stIS, f_stIM, f_stSM, f_stSI, f_stEI, f_stMI, f_stII, f_coreCount, f_lineCount, f_frameCount, f_msgCount, f_inType, f_inTo, f_inLine, f_inCore, f_inInfo, f_inAcks, a_opKind, a_opAddress, a_opOperand, a_opResult, a_opPerformed, a_acc, a_closedCount, a_nextVictim, a_frameLine, a_frameState, a_frameTarget, a_frameAcks, a_frameGranted, a_frameWords, a_memory, a_current, a_homeOwner, a_homeSharers, a_homeNextOwner, a_homeNextSharers, a_homeBusy, a_homeAwaits, a_queueHead, a_queueLength, a_queueType, a_queueCore, a_queueInfo, a_queueWords, a_msgType, a_msgTo, a_msgLine, a_msgCore, a_msgInfo, a_msgAcks, a_msgWords, a_inWords) => vp_in l 8 ∧ ∀ c' : Nat → Int32, c' = upd a_current l.toNatClampNeg (vp_nar .boolean 1) → post (f_msgGetS, f_msgGetM, f_msgPut, f_msgDone, f_msgCopyBack, f_msgFwdS, f_msgFwdM, f_msgInv, f_msgAck, f_msgData, f_msgGrant, f_msgPutAck, f_stFree, f_stS, f_stE, f_stM, f_stIS, f_stIM, f_stSM, f_stSI, f_stEI, f_stMI, f_stII, f_coreCount, f_lineCount, f_frameCount, f_msgCount, f_inType, f_inTo, f_inLine, f_inCore, f_inInfo, f_inAcks, a_opKind, a_opAddress, a_opOperand, a_opResult, a_opPerformed, a_acc, a_closedCount, a_nextVictim, a_frameLine, a_frameState, a_frameTarget, a_frameAcks, a_frameGranted, a_frameWords, a_memory, c', a_homeOwner, a_homeSharers, a_homeNextOwner, a_homeNextSharers, a_homeBusy, a_homeAwaits, a_queueHead, a_queueLength, a_queueType, a_queueCore, a_queueInfo, a_queueWords, a_msgType, a_msgTo, a_msgLine, a_msgCore, a_msgInfo, a_msgAcks, a_msgWords, a_inWords)
section
variable {cc lc fc M : Nat} {k gr fr d nd : Nat → Nat → Nat} {ac : Nat → Nat → Int} {aw R dI dA cu oc ok oa pf : Nat → Nat} {n nq : Nat → Nat → Nat → Nat} {V : Nat → Nat → Int32} {val : Nat → Int32} {f_msgGetS f_msgGetM f_msgPut f_msgDone f_msgCopyBack f_msgFwdS f_msgFwdM f_msgInv f_msgAck f_msgData f_msgGrant f_msgPutAck f_stFree f_stS f_stE f_stM f_stIS f_stIM f_stSM f_stSI f_stEI f_stMI f_stII f_coreCount f_lineCount f_frameCount f_msgCount f_inType f_inTo f_inLine f_inCore f_inInfo f_inAcks : Int32} {a_opKind a_opAddress a_opOperand a_opResult a_opPerformed a_acc a_closedCount a_nextVictim a_frameLine a_frameState a_frameTarget a_frameAcks a_frameGranted a_frameWords a_memory a_current a_homeOwner a_homeSharers a_homeNextOwner a_homeNextSharers a_homeBusy a_homeAwaits a_queueHead a_queueLength a_queueType a_queueCore a_queueInfo a_queueWords a_msgType a_msgTo a_msgLine a_msgCore a_msgInfo a_msgAcks a_msgWords a_inWords : Nat → Int32} {l : Nat}
theorem dm_x_cur (hX : dm_X cc lc fc k gr ac fr d nd aw n nq R dI dA V oc ok oa pf cu val 0 a_opKind a_opAddress a_opOperand a_opResult a_opPerformed a_acc a_nextVictim a_frameLine a_frameState a_frameTarget a_frameAcks a_frameGranted a_frameWords a_memory a_current a_homeOwner a_homeSharers a_homeNextOwner a_homeNextSharers a_homeBusy a_homeAwaits a_queueHead a_queueLength a_queueType a_queueCore a_queueInfo a_queueWords a_msgType a_msgTo a_msgLine a_msgCore a_msgInfo a_msgAcks a_msgWords) (hL : dm_LL 8 k gr ac d nd aw n nq R dI dA cu) (hl : l < lc) (hk : ∀ e, e < 4 → k l e = 0) (hno : ∀ e, e < 4 → oc e = 1 → oa e / 4 ≠ l) : dm_X cc lc fc k gr ac fr d nd aw n nq R dI dA V oc ok oa pf (dm_fu cu l 1) val 0 a_opKind a_opAddress a_opOperand a_opResult a_opPerformed a_acc a_nextVictim a_frameLine a_frameState a_frameTarget a_frameAcks a_frameGranted a_frameWords a_memory (upd a_current l 1) a_homeOwner a_homeSharers a_homeNextOwner a_homeNextSharers a_homeBusy a_homeAwaits a_queueHead a_queueLength a_queueType a_queueCore a_queueInfo a_queueWords a_msgType a_msgTo a_msgLine a_msgCore a_msgInfo a_msgAcks a_msgWords ∧ dm_LL 8 k gr ac d nd aw n nq R dI dA (dm_fu cu l 1) := by
  have hr := dm_rest_all hX hL
  have hl8 : l < 8 := by have := hX.1; omega
  have ht := (hr l hl8).2.1
  simp only [dm_tot] at ht
  have hdt : dm_s4 (fun c => dm_dt (k l c)) = 0 := by
    simp only [dm_s4]; rw [hk 0 (by omega), hk 1 (by omega), hk 2 (by omega), hk 3 (by omega)]; rfl
  obtain ⟨hZ, hF, hH, hM, hQ, hP, hO, hV, hC, hN⟩ := hX
  refine ⟨⟨hZ, hF, hH, fun x hx g => ?_, hQ, hP, hO, hV, fun x hx => ?_, hN⟩, fun x hx => ?_⟩
  · by_cases e : x = l
    · subst e; exact hM x hx (Or.inl ⟨by omega, Or.inl (by omega), hdt⟩)
    · rw [dm_fn e] at g; exact hM x hx g
  · by_cases e : x = l
    · subst e
      rw [dm_fs, pk_us]
      exact ⟨by omega, rfl, fun _ c hc h1 h2 => absurd h2 (hno c hc h1)⟩
    · rw [dm_fn e, pk_un e]; exact hC x hx
  · by_cases e : x = l
    · subst e
      rw [dm_fs]
      obtain ⟨⟨hA, hT, hB⟩, hq⟩ := hL x hx
      obtain ⟨t1, t2, t3, t4, t5, t6, t7, t8, t9, t10, t11, t12, t13, t14, t15, t16, t17, t18, t19⟩ := hT
      exact ⟨⟨hA, ⟨t1, t2, t3, t4, t5, t6, t7, t8, t9, t10, t11, t12, t13, t14, t15, t16, t17, t18, fun _ => ⟨hdt, fun z => by omega⟩⟩, hB⟩, hq⟩
    · rw [dm_fn e]; exact hL x hx
end
theorem dm_nI0 {m : Nat} (h : m ≤ 80) (e : nI m = 0) : m = 0 := by
  rw [← nI_0, nI_eq (by omega) (by omega)] at e; exact e
theorem dm_bh7 {cc lc fc : Nat} {oc ok oa cu : Nat → Nat} {val y_acc y_opn y_fin y_cur : Nat → Int32} {l : Nat} {p : Int32} {post : SX → Prop} (hl : l < lc) (hno : ∀ e, e < 4 → oc e = 1 → oa e / 4 ≠ l) (K : ∀ u', dm_IB cc lc fc oc ok oa (dm_fu cu l 1) val y_acc y_opn y_fin (upd y_cur l 1) 8 524 u' → post u') :
    ∀ j i, i + j = cc → ∀ u, dm_IQ cc lc fc oc ok oa cu val y_acc y_opn y_fin y_cur (fun k => (∀ e, e < 4 → e < i → dm_gn (k l e)) ∧ (∀ e, e < 4 → i ≤ e → k l e ≤ 3)) u → dm_BHu post (nI l) p (j + 1) (nI i) u := by
  intro j
  induction j with
  | zero =>
    intro i hi u I
    obtain rfl : i = cc := by omega
    refine dm_IQ_el (P := fun u => dm_BHu post (nI l) p 1 (nI i) u) ?_ I
    intro k gr ac fr d nd aw n nq R dI dA V pf M f_msgGetS f_msgGetM f_msgPut f_msgDone f_msgCopyBack f_msgFwdS f_msgFwdM f_msgInv f_msgAck f_msgData f_msgGrant f_msgPutAck f_stFree f_stS f_stE f_stM f_stIS f_stIM f_stSM f_stSI f_stEI f_stMI f_stII f_coreCount f_lineCount f_frameCount f_msgCount f_inType f_inTo f_inLine f_inCore f_inInfo f_inAcks a_opKind a_opAddress a_opOperand a_opResult a_opPerformed a_acc a_closedCount a_nextVictim a_frameLine a_frameState a_frameTarget a_frameAcks a_frameGranted a_frameWords a_memory a_current a_homeOwner a_homeSharers a_homeNextOwner a_homeNextSharers a_homeBusy a_homeAwaits a_queueHead a_queueLength a_queueType a_queueCore a_queueInfo a_queueWords a_msgType a_msgTo a_msgLine a_msgCore a_msgInfo a_msgAcks a_msgWords a_inWords hX hL hp hq e1 e2 e3 e4
    have hZ := hX.1
    have hgn : ∀ e, e < 4 → dm_gn (k l e) := fun e he => by
      by_cases g : e < i
      · exact hq.1 e he g
      · exact Or.inl (hX.2.1.1 l e (by omega))
    have hN : dm_Phi n nq gr + dm_s4 (dm_Psi oc ok oa pf k) ≤ 524 := by
      have h1 := dm_Phi_le hL
      have h2 := dm_Psi_le (oc := oc) (ok := ok) (oa := oa) (pf := pf) (k := k)
      omega
    refine br_t (nI_le (Nat.le_refl _) (by omega)) (dm_hoa (gl := l) hno (dm_IB_mk hX hL hp hN hgn e1 e2 e3 e4) (fun u' hI hm => ?_))
    have fin : dm_mz u' → dm_BHe post (nI l) u' := by
      refine dm_IB_el (P := fun u' => dm_mz u' → dm_BHe post (nI l) u') ?_ hI
      clear hX hL hp hq e1 e2 e3 e4 hgn hN hm hI I
      intro k gr ac fr d nd aw n nq R dI dA V pf M f_msgGetS f_msgGetM f_msgPut f_msgDone f_msgCopyBack f_msgFwdS f_msgFwdM f_msgInv f_msgAck f_msgData f_msgGrant f_msgPutAck f_stFree f_stS f_stE f_stM f_stIS f_stIM f_stSM f_stSI f_stEI f_stMI f_stII f_coreCount f_lineCount f_frameCount f_msgCount f_inType f_inTo f_inLine f_inCore f_inInfo f_inAcks a_opKind a_opAddress a_opOperand a_opResult a_opPerformed a_acc a_closedCount a_nextVictim a_frameLine a_frameState a_frameTarget a_frameAcks a_frameGranted a_frameWords a_memory a_current a_homeOwner a_homeSharers a_homeNextOwner a_homeNextSharers a_homeBusy a_homeAwaits a_queueHead a_queueLength a_queueType a_queueCore a_queueInfo a_queueWords a_msgType a_msgTo a_msgLine a_msgCore a_msgInfo a_msgAcks a_msgWords a_inWords hX hL hp hN hgn e1 e2 e3 e4 hm
      have hM80 := dm_M80 hX hL
      have hM0 : M = 0 := dm_nI0 hM80 hm
      subst hM0
      have hr := dm_rest_all hX hL
      have hk : ∀ e, e < 4 → k l e = 0 := fun e he => by
        have h3 := (hr l (by omega)).2.2 e he
        rcases hgn e he with g | g
        · exact g
        · rw [dm_lv] at g; split at g <;> omega
      obtain ⟨hX', hL'⟩ := dm_x_cur hX hL hl hk hno
      refine ⟨vp_in_nI (by omega) (by omega), nm_r (dm_ub1 (nI_clamp (by omega))) (K _ (dm_IB_mk hX' hL' hp hN (fun e he => Or.inl (hX.2.1.1 8 e (by omega))) e1 e2 e3 (by rw [e4])))⟩
    exact fin hm
  | succ j ih =>
    intro i hi u I
    refine dm_IQ_el (P := fun u => dm_BHu post (nI l) p (j + 1 + 1) (nI i) u) ?_ I
    intro k gr ac fr d nd aw n nq R dI dA V pf M f_msgGetS f_msgGetM f_msgPut f_msgDone f_msgCopyBack f_msgFwdS f_msgFwdM f_msgInv f_msgAck f_msgData f_msgGrant f_msgPutAck f_stFree f_stS f_stE f_stM f_stIS f_stIM f_stSM f_stSI f_stEI f_stMI f_stII f_coreCount f_lineCount f_frameCount f_msgCount f_inType f_inTo f_inLine f_inCore f_inInfo f_inAcks a_opKind a_opAddress a_opOperand a_opResult a_opPerformed a_acc a_closedCount a_nextVictim a_frameLine a_frameState a_frameTarget a_frameAcks a_frameGranted a_frameWords a_memory a_current a_homeOwner a_homeSharers a_homeNextOwner a_homeNextSharers a_homeBusy a_homeAwaits a_queueHead a_queueLength a_queueType a_queueCore a_queueInfo a_queueWords a_msgType a_msgTo a_msgLine a_msgCore a_msgInfo a_msgAcks a_msgWords a_inWords hX hL hp hq e1 e2 e3 e4
    have hZ := hX.1
    have hM80 := dm_M80 hX hL
    have hk3 := hq.2 i (by omega) (Nat.le_refl _)
    refine br_f (nI_ge (by omega) (by omega)) (dm_find hX (by omega) hl (fun hk0 => br_f (nI_pos (by have := dm_stE hX hL hk0; omega)) ?_) (fun hk0 => br_t (by decide) ?_))
    · obtain ⟨q1, q2, q17, q3⟩ := dm_stE hX hL hk0
      have est : dm_st (k l i) = k l i := by rw [dm_st, if_pos (by omega)]
      refine dm_w_stab q1 q2 q3 (fun h1 h3 => br_f (by decide) ?_) (fun h => absurd (by rw [est]; omega) h)
      refine dm_o_give hX hL (by omega) (by omega) hk3 (by omega) (fun w1 w2 w3 w4 w5 w6 w7 w8 hX' hL' => nm_r (nI_1 i) (ih (i + 1) (by omega) (f_msgGetS, f_msgGetM, f_msgPut, f_msgDone, f_msgCopyBack, f_msgFwdS, f_msgFwdM, f_msgInv, f_msgAck, f_msgData, f_msgGrant, f_msgPutAck, f_stFree, f_stS, f_stE, f_stM, f_stIS, f_stIM, f_stSM, f_stSI, f_stEI, f_stMI, f_stII, nI cc, nI lc, nI fc, nI (M + 1), f_inType, f_inTo, f_inLine, f_inCore, f_inInfo, f_inAcks, a_opKind, a_opAddress, a_opOperand, a_opResult, a_opPerformed, a_acc, a_closedCount, a_nextVictim, a_frameLine, w1, a_frameTarget, a_frameAcks, a_frameGranted, a_frameWords, a_memory, a_current, a_homeOwner, a_homeSharers, a_homeNextOwner, a_homeNextSharers, a_homeBusy, a_homeAwaits, a_queueHead, a_queueLength, a_queueType, a_queueCore, a_queueInfo, a_queueWords, w2, w3, w4, w5, w6, w7, w8, a_inWords) (dm_IQ_mk hX' hL' (dm_PU_give (by omega) (by omega) hk3 (fun z _ => hno i (by omega) z) hp) ⟨fun e he hei => ?_, fun e he hei => ?_⟩ e1 e2 e3 e4)))
      · rw [dm_f2s]
        by_cases g : e = i
        · subst g; rw [dm_fs]; exact Or.inr (by rw [dm_lv, if_pos (by omega)])
        · rw [dm_fn g]; exact hq.1 e he (by omega)
      · rw [dm_f2s, dm_fn (by omega)]; exact hq.2 e he (by omega)
    · refine nm_r (nI_1 i) (ih (i + 1) (by omega) (f_msgGetS, f_msgGetM, f_msgPut, f_msgDone, f_msgCopyBack, f_msgFwdS, f_msgFwdM, f_msgInv, f_msgAck, f_msgData, f_msgGrant, f_msgPutAck, f_stFree, f_stS, f_stE, f_stM, f_stIS, f_stIM, f_stSM, f_stSI, f_stEI, f_stMI, f_stII, nI cc, nI lc, nI fc, nI M, f_inType, f_inTo, f_inLine, f_inCore, f_inInfo, f_inAcks, a_opKind, a_opAddress, a_opOperand, a_opResult, a_opPerformed, a_acc, a_closedCount, a_nextVictim, a_frameLine, a_frameState, a_frameTarget, a_frameAcks, a_frameGranted, a_frameWords, a_memory, a_current, a_homeOwner, a_homeSharers, a_homeNextOwner, a_homeNextSharers, a_homeBusy, a_homeAwaits, a_queueHead, a_queueLength, a_queueType, a_queueCore, a_queueInfo, a_queueWords, a_msgType, a_msgTo, a_msgLine, a_msgCore, a_msgInfo, a_msgAcks, a_msgWords, a_inWords) (dm_IQ_mk hX hL hp ⟨fun e he hei => ?_, fun e he hei => hq.2 e he (by omega)⟩ e1 e2 e3 e4))
      by_cases g : e = i
      · subst g; exact Or.inl hk0
      · exact hq.1 e he (by omega)
theorem dm_bring {cc lc fc : Nat} {oc ok oa cu : Nat → Nat} {val y_acc y_opn y_fin y_cur : Nat → Int32} {l N : Nat} {p : Int32} {post : SX → Prop} {u : SX} (hl : l < lc) (hlc : lc ≤ 8) (hno : ∀ e, e < 4 → oc e = 1 → oa e / 4 ≠ l) (h8 : ∀ e, e < 4 → oc e = 1 → oa e / 4 ≠ 8) (I : dm_IB cc lc fc oc ok oa cu val y_acc y_opn y_fin y_cur 8 N u) (K : ∀ u', dm_IB cc lc fc oc ok oa (dm_fu cu l 1) val y_acc y_opn y_fin (upd y_cur l 1) 8 524 u' → post u') : wpX_bringHome post u (nI l) p := by
  revert I
  refine dm_el (P := fun u => dm_IB cc lc fc oc ok oa cu val y_acc y_opn y_fin y_cur 8 N u → wpX_bringHome post u (nI l) p) ?_ u
  intro f_msgGetS f_msgGetM f_msgPut f_msgDone f_msgCopyBack f_msgFwdS f_msgFwdM f_msgInv f_msgAck f_msgData f_msgGrant f_msgPutAck f_stFree f_stS f_stE f_stM f_stIS f_stIM f_stSM f_stSI f_stEI f_stMI f_stII f_coreCount f_lineCount f_frameCount f_msgCount f_inType f_inTo f_inLine f_inCore f_inInfo f_inAcks a_opKind a_opAddress a_opOperand a_opResult a_opPerformed a_acc a_closedCount a_nextVictim a_frameLine a_frameState a_frameTarget a_frameAcks a_frameGranted a_frameWords a_memory a_current a_homeOwner a_homeSharers a_homeNextOwner a_homeNextSharers a_homeBusy a_homeAwaits a_queueHead a_queueLength a_queueType a_queueCore a_queueInfo a_queueWords a_msgType a_msgTo a_msgLine a_msgCore a_msgInfo a_msgAcks a_msgWords a_inWords I
  unfold wpX_bringHome
  refine dm_hoa (gl := 8) h8 I (fun u' hI hm => ?_)
  have fin : dm_mz u' → dm_BHu post (nI l) p (cc + 1) (nI 0) u' := fun hm => by
    refine dm_bh7 hl hno K cc 0 (by omega) u' ?_
    revert hm
    refine dm_IB_el (P := fun u' => dm_mz u' → dm_IQ cc lc fc oc ok oa cu val y_acc y_opn y_fin y_cur (fun k => (∀ e, e < 4 → e < 0 → dm_gn (k l e)) ∧ (∀ e, e < 4 → 0 ≤ e → k l e ≤ 3)) u') ?_ hI
    clear hI I
    intro k gr ac fr d nd aw n nq R dI dA V pf M f_msgGetS f_msgGetM f_msgPut f_msgDone f_msgCopyBack f_msgFwdS f_msgFwdM f_msgInv f_msgAck f_msgData f_msgGrant f_msgPutAck f_stFree f_stS f_stE f_stM f_stIS f_stIM f_stSM f_stSI f_stEI f_stMI f_stII f_coreCount f_lineCount f_frameCount f_msgCount f_inType f_inTo f_inLine f_inCore f_inInfo f_inAcks a_opKind a_opAddress a_opOperand a_opResult a_opPerformed a_acc a_closedCount a_nextVictim a_frameLine a_frameState a_frameTarget a_frameAcks a_frameGranted a_frameWords a_memory a_current a_homeOwner a_homeSharers a_homeNextOwner a_homeNextSharers a_homeBusy a_homeAwaits a_queueHead a_queueLength a_queueType a_queueCore a_queueInfo a_queueWords a_msgType a_msgTo a_msgLine a_msgCore a_msgInfo a_msgAcks a_msgWords a_inWords hX hL hp hN hgn e1 e2 e3 e4 hm
    have hM80 := dm_M80 hX hL
    have hM0 : M = 0 := dm_nI0 hM80 hm
    subst hM0
    have hr := dm_rest_all hX hL
    exact dm_IQ_mk hX hL hp ⟨fun e _ z => absurd z (Nat.not_lt_zero e), fun e he _ => (hr l (by omega)).2.2 e he⟩ e1 e2 e3 e4
  exact ⟨cc + 1, fin hm⟩
/-- an open operation on the line -/
def dm_bz (cc : Nat) (oc oa : Nat → Nat) (l : Nat) : Prop := ∃ e, e < cc ∧ oc e = 1 ∧ oa e / 4 = l
section
variable {cc lc fc M : Nat} {k gr fr d nd : Nat → Nat → Nat} {ac : Nat → Nat → Int} {aw R dI dA cu oc ok oa pf : Nat → Nat} {n nq : Nat → Nat → Nat → Nat} {V : Nat → Nat → Int32} {val : Nat → Int32} {f_msgGetS f_msgGetM f_msgPut f_msgDone f_msgCopyBack f_msgFwdS f_msgFwdM f_msgInv f_msgAck f_msgData f_msgGrant f_msgPutAck f_stFree f_stS f_stE f_stM f_stIS f_stIM f_stSM f_stSI f_stEI f_stMI f_stII f_coreCount f_lineCount f_frameCount f_msgCount f_inType f_inTo f_inLine f_inCore f_inInfo f_inAcks : Int32} {a_opKind a_opAddress a_opOperand a_opResult a_opPerformed a_acc a_closedCount a_nextVictim a_frameLine a_frameState a_frameTarget a_frameAcks a_frameGranted a_frameWords a_memory a_current a_homeOwner a_homeSharers a_homeNextOwner a_homeNextSharers a_homeBusy a_homeAwaits a_queueHead a_queueLength a_queueType a_queueCore a_queueInfo a_queueWords a_msgType a_msgTo a_msgLine a_msgCore a_msgInfo a_msgAcks a_msgWords a_inWords : Nat → Int32} {post : Int32 → SX → Prop} {l : Nat} {p : Int32}
theorem dm_w_rc12 (hX : dm_X cc lc fc k gr ac fr d nd aw n nq R dI dA V oc ok oa pf cu val M a_opKind a_opAddress a_opOperand a_opResult a_opPerformed a_acc a_nextVictim a_frameLine a_frameState a_frameTarget a_frameAcks a_frameGranted a_frameWords a_memory a_current a_homeOwner a_homeSharers a_homeNextOwner a_homeNextSharers a_homeBusy a_homeAwaits a_queueHead a_queueLength a_queueType a_queueCore a_queueInfo a_queueWords a_msgType a_msgTo a_msgLine a_msgCore a_msgInfo a_msgAcks a_msgWords) (hl : l < lc) (K2 : dm_bz cc oc oa l → post 2 (f_msgGetS, f_msgGetM, f_msgPut, f_msgDone, f_msgCopyBack, f_msgFwdS, f_msgFwdM, f_msgInv, f_msgAck, f_msgData, f_msgGrant, f_msgPutAck, f_stFree, f_stS, f_stE, f_stM, f_stIS, f_stIM, f_stSM, f_stSI, f_stEI, f_stMI, f_stII, nI cc, nI lc, nI fc, nI M, f_inType, f_inTo, f_inLine, f_inCore, f_inInfo, f_inAcks, a_opKind, a_opAddress, a_opOperand, a_opResult, a_opPerformed, a_acc, a_closedCount, a_nextVictim, a_frameLine, a_frameState, a_frameTarget, a_frameAcks, a_frameGranted, a_frameWords, a_memory, a_current, a_homeOwner, a_homeSharers, a_homeNextOwner, a_homeNextSharers, a_homeBusy, a_homeAwaits, a_queueHead, a_queueLength, a_queueType, a_queueCore, a_queueInfo, a_queueWords, a_msgType, a_msgTo, a_msgLine, a_msgCore, a_msgInfo, a_msgAcks, a_msgWords, a_inWords)) (K0 : ¬ dm_bz cc oc oa l → wpX_bringHome (fun u => post 0 u) (f_msgGetS, f_msgGetM, f_msgPut, f_msgDone, f_msgCopyBack, f_msgFwdS, f_msgFwdM, f_msgInv, f_msgAck, f_msgData, f_msgGrant, f_msgPutAck, f_stFree, f_stS, f_stE, f_stM, f_stIS, f_stIM, f_stSM, f_stSI, f_stEI, f_stMI, f_stII, nI cc, nI lc, nI fc, nI M, f_inType, f_inTo, f_inLine, f_inCore, f_inInfo, f_inAcks, a_opKind, a_opAddress, a_opOperand, a_opResult, a_opPerformed, a_acc, a_closedCount, a_nextVictim, a_frameLine, a_frameState, a_frameTarget, a_frameAcks, a_frameGranted, a_frameWords, a_memory, a_current, a_homeOwner, a_homeSharers, a_homeNextOwner, a_homeNextSharers, a_homeBusy, a_homeAwaits, a_queueHead, a_queueLength, a_queueType, a_queueCore, a_queueInfo, a_queueWords, a_msgType, a_msgTo, a_msgLine, a_msgCore, a_msgInfo, a_msgAcks, a_msgWords, a_inWords) (nI l) p) : ∀ j i, i + j = cc → (∀ e, e < i → oc e = 1 → oa e / 4 ≠ l) → wX_recall_12 post (nI l) p f_msgGetS f_msgGetM f_msgPut f_msgDone f_msgCopyBack f_msgFwdS f_msgFwdM f_msgInv f_msgAck f_msgData f_msgGrant f_msgPutAck f_stFree f_stS f_stE f_stM f_stIS f_stIM f_stSM f_stSI f_stEI f_stMI f_stII (nI cc) (nI lc) (nI fc) (nI M) f_inType f_inTo f_inLine f_inCore f_inInfo f_inAcks a_opKind a_opAddress a_opOperand a_opResult a_opPerformed a_acc a_closedCount a_nextVictim a_frameLine a_frameState a_frameTarget a_frameAcks a_frameGranted a_frameWords a_memory a_current a_homeOwner a_homeSharers a_homeNextOwner a_homeNextSharers a_homeBusy a_homeAwaits a_queueHead a_queueLength a_queueType a_queueCore a_queueInfo a_queueWords a_msgType a_msgTo a_msgLine a_msgCore a_msgInfo a_msgAcks a_msgWords a_inWords (j + 1) (nI i) := by
  have hZ := hX.1
  intro j
  induction j with
  | zero =>
    intro i hi hno
    obtain rfl : i = cc := by omega
    exact br_t (nI_le (Nat.le_refl _) (by omega)) (K0 (fun ⟨e, h1, h2, h3⟩ => hno e h1 h2 h3))
  | succ j ih =>
    intro i hi hno
    have hv : vp_in (nI i) 4 := vp_in_nI (by omega) (by omega)
    have hcl : (nI i).toNatClampNeg = i := nI_clamp (by omega)
    obtain ⟨o1, o2, o3, o4, o5⟩ := hX.2.2.2.2.2.2.1 i (by omega)
    have next : (oc i = 1 → oa i / 4 ≠ l) → wX_recall_12 post (nI l) p f_msgGetS f_msgGetM f_msgPut f_msgDone f_msgCopyBack f_msgFwdS f_msgFwdM f_msgInv f_msgAck f_msgData f_msgGrant f_msgPutAck f_stFree f_stS f_stE f_stM f_stIS f_stIM f_stSM f_stSI f_stEI f_stMI f_stII (nI cc) (nI lc) (nI fc) (nI M) f_inType f_inTo f_inLine f_inCore f_inInfo f_inAcks a_opKind a_opAddress a_opOperand a_opResult a_opPerformed a_acc a_closedCount a_nextVictim a_frameLine a_frameState a_frameTarget a_frameAcks a_frameGranted a_frameWords a_memory a_current a_homeOwner a_homeSharers a_homeNextOwner a_homeNextSharers a_homeBusy a_homeAwaits a_queueHead a_queueLength a_queueType a_queueCore a_queueInfo a_queueWords a_msgType a_msgTo a_msgLine a_msgCore a_msgInfo a_msgAcks a_msgWords a_inWords (j + 1) (nI (i + 1)) := fun h => ih (i + 1) (by omega) fun e he h1 => by
      by_cases g : e = i
      · subst g; exact h h1
      · exact hno e (by omega) h1
    refine br_f (nI_ge (by omega) (by omega)) ⟨hv, ?_⟩
    rw [hcl]
    by_cases ho : oc i = 1
    · obtain ⟨p1, p2, p3, p4, p5⟩ := o4 ho
      rw [p4, p5]
      refine br_f (nI_pos (by omega)) ⟨hv, by decide, ?_⟩
      rw [dm_div4 (by omega)]
      exact pk_eq (oa i / 4) l (fun g => K2 ⟨i, by omega, ho, g⟩) (fun g => nm_r (nI_1 i) (next (fun _ => g)))
    · rw [(o3 (by omega)).1]
      exact br_t (by decide) (nm_r (nI_1 i) (next (fun z => absurd z ho)))
theorem dm_w_fl2 {x1 : Int32} (hX : dm_X cc lc fc k gr ac fr d nd aw n nq R dI dA V oc ok oa pf cu val M a_opKind a_opAddress a_opOperand a_opResult a_opPerformed a_acc a_nextVictim a_frameLine a_frameState a_frameTarget a_frameAcks a_frameGranted a_frameWords a_memory a_current a_homeOwner a_homeSharers a_homeNextOwner a_homeNextSharers a_homeBusy a_homeAwaits a_queueHead a_queueLength a_queueType a_queueCore a_queueInfo a_queueWords a_msgType a_msgTo a_msgLine a_msgCore a_msgInfo a_msgAcks a_msgWords) (K2 : (∃ e, e < cc ∧ oc e = 1) → post 2 (f_msgGetS, f_msgGetM, f_msgPut, f_msgDone, f_msgCopyBack, f_msgFwdS, f_msgFwdM, f_msgInv, f_msgAck, f_msgData, f_msgGrant, f_msgPutAck, f_stFree, f_stS, f_stE, f_stM, f_stIS, f_stIM, f_stSM, f_stSI, f_stEI, f_stMI, f_stII, nI cc, nI lc, nI fc, nI M, f_inType, f_inTo, f_inLine, f_inCore, f_inInfo, f_inAcks, a_opKind, a_opAddress, a_opOperand, a_opResult, a_opPerformed, a_acc, a_closedCount, a_nextVictim, a_frameLine, a_frameState, a_frameTarget, a_frameAcks, a_frameGranted, a_frameWords, a_memory, a_current, a_homeOwner, a_homeSharers, a_homeNextOwner, a_homeNextSharers, a_homeBusy, a_homeAwaits, a_queueHead, a_queueLength, a_queueType, a_queueCore, a_queueInfo, a_queueWords, a_msgType, a_msgTo, a_msgLine, a_msgCore, a_msgInfo, a_msgAcks, a_msgWords, a_inWords)) (K0 : (∀ e, e < cc → oc e = 0) → ∃ m, wX_flush_29 post x1 m 0 f_msgGetS f_msgGetM f_msgPut f_msgDone f_msgCopyBack f_msgFwdS f_msgFwdM f_msgInv f_msgAck f_msgData f_msgGrant f_msgPutAck f_stFree f_stS f_stE f_stM f_stIS f_stIM f_stSM f_stSI f_stEI f_stMI f_stII (nI cc) (nI lc) (nI fc) (nI M) f_inType f_inTo f_inLine f_inCore f_inInfo f_inAcks a_opKind a_opAddress a_opOperand a_opResult a_opPerformed a_acc a_closedCount a_nextVictim a_frameLine a_frameState a_frameTarget a_frameAcks a_frameGranted a_frameWords a_memory a_current a_homeOwner a_homeSharers a_homeNextOwner a_homeNextSharers a_homeBusy a_homeAwaits a_queueHead a_queueLength a_queueType a_queueCore a_queueInfo a_queueWords a_msgType a_msgTo a_msgLine a_msgCore a_msgInfo a_msgAcks a_msgWords a_inWords) : ∀ j i, i + j = cc → (∀ e, e < i → oc e = 0) → wX_flush_2 post x1 f_msgGetS f_msgGetM f_msgPut f_msgDone f_msgCopyBack f_msgFwdS f_msgFwdM f_msgInv f_msgAck f_msgData f_msgGrant f_msgPutAck f_stFree f_stS f_stE f_stM f_stIS f_stIM f_stSM f_stSI f_stEI f_stMI f_stII (nI cc) (nI lc) (nI fc) (nI M) f_inType f_inTo f_inLine f_inCore f_inInfo f_inAcks a_opKind a_opAddress a_opOperand a_opResult a_opPerformed a_acc a_closedCount a_nextVictim a_frameLine a_frameState a_frameTarget a_frameAcks a_frameGranted a_frameWords a_memory a_current a_homeOwner a_homeSharers a_homeNextOwner a_homeNextSharers a_homeBusy a_homeAwaits a_queueHead a_queueLength a_queueType a_queueCore a_queueInfo a_queueWords a_msgType a_msgTo a_msgLine a_msgCore a_msgInfo a_msgAcks a_msgWords a_inWords (j + 1) (nI i) := by
  have hZ := hX.1
  intro j
  induction j with
  | zero =>
    intro i hi hno
    obtain rfl : i = cc := by omega
    exact br_t (nI_le (Nat.le_refl _) (by omega)) (K0 hno)
  | succ j ih =>
    intro i hi hno
    have hv : vp_in (nI i) 4 := vp_in_nI (by omega) (by omega)
    have hcl : (nI i).toNatClampNeg = i := nI_clamp (by omega)
    obtain ⟨o1, o2, o3, o4, o5⟩ := hX.2.2.2.2.2.2.1 i (by omega)
    refine br_f (nI_ge (by omega) (by omega)) ⟨hv, ?_⟩
    rw [hcl]
    by_cases ho : oc i = 1
    · rw [(o4 ho).2.2.2.1]
      exact br_f (nI_pos (by have := (o4 ho).2.1; omega)) (K2 ⟨i, by omega, ho⟩)
    · rw [(o3 (by omega)).1]
      refine br_t (by decide) (nm_r (nI_1 i) (ih (i + 1) (by omega) fun e he => ?_))
      by_cases g : e = i
      · subst g; omega
      · exact hno e (by omega)
end
section
variable {y_coreCount y_lineCount y_frameCount : Int32} {y_value y_isOpen y_kindOf y_addressOf y_operandOf y_acc y_finished y_current : Nat → Int32} {post : Int32 → SY → Prop} {cc lc l : Nat} {oc ok oa : Nat → Nat}
theorem dm_y_rc12 (hcc : cc ≤ 4) (hl : l < 8) (hY : dm_RY oc ok oa y_isOpen y_kindOf y_addressOf) (hoc : ∀ e, e < 4 → oc e ≤ 1 ∧ (oc e = 1 → ok e ≤ 5 ∧ oa e < 32)) (K2 : dm_bz cc oc oa l → post 2 (nI cc, y_lineCount, y_frameCount, y_value, y_isOpen, y_kindOf, y_addressOf, y_operandOf, y_acc, y_finished, y_current)) (K0 : ¬ dm_bz cc oc oa l → post 0 (nI cc, y_lineCount, y_frameCount, y_value, y_isOpen, y_kindOf, y_addressOf, y_operandOf, y_acc, y_finished, upd y_current l 1)) : ∀ j i, i + j = cc → (∀ e, e < i → oc e = 1 → oa e / 4 ≠ l) → wY_recall_12 post (nI l) (nI cc) y_lineCount y_frameCount y_value y_isOpen y_kindOf y_addressOf y_operandOf y_acc y_finished y_current (j + 1) (nI i) := by
  intro j
  induction j with
  | zero =>
    intro i hi hno
    obtain rfl : i = cc := by omega
    exact br_t (nI_le (Nat.le_refl _) (by omega)) ⟨vp_in_nI hl (by omega), nm_r (dm_ub1 (nI_clamp (by omega))) (K0 (fun ⟨e, h1, h2, h3⟩ => hno e h1 h2 h3))⟩
  | succ j ih =>
    intro i hi hno
    have hv : vp_in (nI i) 4 := vp_in_nI (by omega) (by omega)
    have hcl : (nI i).toNatClampNeg = i := nI_clamp (by omega)
    obtain ⟨y1, y2⟩ := hY i (by omega)
    obtain ⟨m1, m2⟩ := hoc i (by omega)
    have next : (oc i = 1 → oa i / 4 ≠ l) → wY_recall_12 post (nI l) (nI cc) y_lineCount y_frameCount y_value y_isOpen y_kindOf y_addressOf y_operandOf y_acc y_finished y_current (j + 1) (nI (i + 1)) := fun h => ih (i + 1) (by omega) fun e he h1 => by
      by_cases g : e = i
      · subst g; exact h h1
      · exact hno e (by omega) h1
    refine br_f (nI_ge (by omega) (by omega)) ⟨hv, ?_⟩
    rw [hcl, y1]
    refine pk_eq (oc i) 0 (fun g => nm_r (nI_1 i) (next (fun z => by omega))) (fun g => ⟨hv, by decide, ?_⟩)
    have ho : oc i = 1 := by omega
    obtain ⟨q1, q2⟩ := m2 ho
    rw [(y2 ho).2, dm_div4 q2]
    exact pk_eq (oa i / 4) l (fun g => K2 ⟨i, by omega, ho, g⟩) (fun g => nm_r (nI_1 i) (next (fun _ => g)))
/-- the lines below i are current -/
def dm_cj (cur : Nat → Int32) (i : Nat) : Nat → Int32 := fun x => if x < i then 1 else cur x
theorem dm_cj0 (cur : Nat → Int32) : dm_cj cur 0 = cur := by funext x; rw [dm_cj, if_neg (by omega)]
theorem dm_cjS (cur : Nat → Int32) (i : Nat) : upd (dm_cj cur i) i 1 = dm_cj cur (i + 1) := by
  funext x
  by_cases g : x = i
  · subst g; rw [pk_us, dm_cj, if_pos (by omega)]
  · rw [pk_un g, dm_cj, dm_cj]
    by_cases h : x < i
    · rw [if_pos h, if_pos (by omega)]
    · rw [if_neg h, if_neg (by omega)]
theorem dm_y_fl29 (hlc : lc ≤ 8) (K0 : post 0 (y_coreCount, nI lc, y_frameCount, y_value, y_isOpen, y_kindOf, y_addressOf, y_operandOf, y_acc, y_finished, dm_cj y_current lc)) : ∀ j i, i + j = lc → wY_flush_29 post y_coreCount (nI lc) y_frameCount (j + 1) (nI i) y_value y_isOpen y_kindOf y_addressOf y_operandOf y_acc y_finished (dm_cj y_current i) := by
  intro j
  induction j with
  | zero =>
    intro i hi
    obtain rfl : i = lc := by omega
    exact br_t (nI_le (Nat.le_refl _) (by omega)) K0
  | succ j ih =>
    intro i hi
    have hcl : (nI i).toNatClampNeg = i := nI_clamp (by omega)
    exact br_f (nI_ge (by omega) (by omega)) ⟨vp_in_nI (by omega) (by omega), nm_r ((dm_ub1 hcl).trans (dm_cjS _ _)) (nm_r (nI_1 i) (ih (i + 1) (by omega)))⟩
theorem dm_y_fl2 (hcc : cc ≤ 4) (hlc : lc ≤ 8) (hY : dm_RY oc ok oa y_isOpen y_kindOf y_addressOf) (hoc : ∀ e, e < 4 → oc e ≤ 1) (K2 : (∃ e, e < cc ∧ oc e = 1) → post 2 (nI cc, nI lc, y_frameCount, y_value, y_isOpen, y_kindOf, y_addressOf, y_operandOf, y_acc, y_finished, y_current)) (K0 : (∀ e, e < cc → oc e = 0) → post 0 (nI cc, nI lc, y_frameCount, y_value, y_isOpen, y_kindOf, y_addressOf, y_operandOf, y_acc, y_finished, dm_cj y_current lc)) : ∀ j i, i + j = cc → (∀ e, e < i → oc e = 0) → wY_flush_2 post (nI cc) (nI lc) y_frameCount y_value y_isOpen y_kindOf y_addressOf y_operandOf y_acc y_finished y_current (j + 1) (nI i) := by
  intro j
  induction j with
  | zero =>
    intro i hi hno
    obtain rfl : i = cc := by omega
    have q := dm_y_fl29 (post := post) hlc (K0 hno) lc 0 (by omega)
    rw [dm_cj0] at q
    exact br_t (nI_le (Nat.le_refl _) (by omega)) ⟨lc + 1, q⟩
  | succ j ih =>
    intro i hi hno
    have hv : vp_in (nI i) 4 := vp_in_nI (by omega) (by omega)
    have hcl : (nI i).toNatClampNeg = i := nI_clamp (by omega)
    obtain ⟨y1, y2⟩ := hY i (by omega)
    have m1 := hoc i (by omega)
    refine br_f (nI_ge (by omega) (by omega)) ⟨hv, ?_⟩
    rw [hcl, y1]
    refine pk_eq (oc i) 0 (fun g => nm_r (nI_1 i) (ih (i + 1) (by omega) fun e he => ?_)) (fun g => K2 ⟨i, by omega, by omega⟩)
    by_cases g2 : e = i
    · subst g2; exact g
    · exact hno e (by omega)
end
def dm_FLu (post : Int32 → SX → Prop) (x1 : Int32) (m : Nat) (x : Int32) (u : SX) : Prop := match u with
  | (f_msgGetS, f_msgGetM, f_msgPut, f_msgDone, f_msgCopyBack, f_msgFwdS, f_msgFwdM, f_msgInv, f_msgAck, f_msgData, f_msgGrant, f_msgPutAck, f_stFree, f_stS, f_stE, f_stM, f_stIS, f_stIM, f_stSM, f_stSI, f_stEI, f_stMI, f_stII, f_coreCount, f_lineCount, f_frameCount, f_msgCount, f_inType, f_inTo, f_inLine, f_inCore, f_inInfo, f_inAcks, a_opKind, a_opAddress, a_opOperand, a_opResult, a_opPerformed, a_acc, a_closedCount, a_nextVictim, a_frameLine, a_frameState, a_frameTarget, a_frameAcks, a_frameGranted, a_frameWords, a_memory, a_current, a_homeOwner, a_homeSharers, a_homeNextOwner, a_homeNextSharers, a_homeBusy, a_homeAwaits, a_queueHead, a_queueLength, a_queueType, a_queueCore, a_queueInfo, a_queueWords, a_msgType, a_msgTo, a_msgLine, a_msgCore, a_msgInfo, a_msgAcks, a_msgWords, a_inWords) => wX_flush_29 post x1 m x f_msgGetS f_msgGetM f_msgPut f_msgDone f_msgCopyBack f_msgFwdS f_msgFwdM f_msgInv f_msgAck f_msgData f_msgGrant f_msgPutAck f_stFree f_stS f_stE f_stM f_stIS f_stIM f_stSM f_stSI f_stEI f_stMI f_stII f_coreCount f_lineCount f_frameCount f_msgCount f_inType f_inTo f_inLine f_inCore f_inInfo f_inAcks a_opKind a_opAddress a_opOperand a_opResult a_opPerformed a_acc a_closedCount a_nextVictim a_frameLine a_frameState a_frameTarget a_frameAcks a_frameGranted a_frameWords a_memory a_current a_homeOwner a_homeSharers a_homeNextOwner a_homeNextSharers a_homeBusy a_homeAwaits a_queueHead a_queueLength a_queueType a_queueCore a_queueInfo a_queueWords a_msgType a_msgTo a_msgLine a_msgCore a_msgInfo a_msgAcks a_msgWords a_inWords
def dm_uj (cu : Nat → Nat) (i : Nat) : Nat → Nat := fun x => if x < i then 1 else cu x
theorem dm_uj0 (cu : Nat → Nat) : dm_uj cu 0 = cu := by funext x; rw [dm_uj, if_neg (by omega)]
theorem dm_ujS (cu : Nat → Nat) (i : Nat) : dm_fu (dm_uj cu i) i 1 = dm_uj cu (i + 1) := by
  funext x
  by_cases g : x = i
  · subst g; rw [dm_fs, dm_uj, if_pos (by omega)]
  · rw [dm_fn g, dm_uj, dm_uj]
    by_cases h : x < i
    · rw [if_pos h, if_pos (by omega)]
    · rw [if_neg h, if_neg (by omega)]
theorem dm_fl29 {cc lc fc : Nat} {oc ok oa cu : Nat → Nat} {val y_acc y_opn y_fin y_cur : Nat → Int32} {p : Int32} {post : Int32 → SX → Prop} (hlc : lc ≤ 8) (hoc : ∀ e, e < 4 → oc e ≠ 1) (K : ∀ u', dm_IB cc lc fc oc ok oa (dm_uj cu lc) val y_acc y_opn y_fin (dm_cj y_cur lc) 8 524 u' → post 0 u') : ∀ j i, i + j = lc → ∀ u, dm_IB cc lc fc oc ok oa (dm_uj cu i) val y_acc y_opn y_fin (dm_cj y_cur i) 8 524 u → dm_FLu post p (j + 1) (nI i) u := by
  intro j
  induction j with
  | zero =>
    intro i hi u I
    obtain rfl : i = lc := by omega
    refine dm_IB_el (P := fun u => dm_IB cc i fc oc ok oa (dm_uj cu i) val y_acc y_opn y_fin (dm_cj y_cur i) 8 524 u → dm_FLu post p 1 (nI i) u) ?_ I I
    intro k gr ac fr d nd aw n nq R dI dA V pf M f_msgGetS f_msgGetM f_msgPut f_msgDone f_msgCopyBack f_msgFwdS f_msgFwdM f_msgInv f_msgAck f_msgData f_msgGrant f_msgPutAck f_stFree f_stS f_stE f_stM f_stIS f_stIM f_stSM f_stSI f_stEI f_stMI f_stII f_coreCount f_lineCount f_frameCount f_msgCount f_inType f_inTo f_inLine f_inCore f_inInfo f_inAcks a_opKind a_opAddress a_opOperand a_opResult a_opPerformed a_acc a_closedCount a_nextVictim a_frameLine a_frameState a_frameTarget a_frameAcks a_frameGranted a_frameWords a_memory a_current a_homeOwner a_homeSharers a_homeNextOwner a_homeNextSharers a_homeBusy a_homeAwaits a_queueHead a_queueLength a_queueType a_queueCore a_queueInfo a_queueWords a_msgType a_msgTo a_msgLine a_msgCore a_msgInfo a_msgAcks a_msgWords a_inWords hX hL hp hN hgn e1 e2 e3 e4 I
    exact br_t (nI_le (Nat.le_refl _) (by omega)) (K _ I)
  | succ j ih =>
    intro i hi u I
    refine dm_IB_el (P := fun u => dm_IB cc lc fc oc ok oa (dm_uj cu i) val y_acc y_opn y_fin (dm_cj y_cur i) 8 524 u → dm_FLu post p (j + 1 + 1) (nI i) u) ?_ I I
    intro k gr ac fr d nd aw n nq R dI dA V pf M f_msgGetS f_msgGetM f_msgPut f_msgDone f_msgCopyBack f_msgFwdS f_msgFwdM f_msgInv f_msgAck f_msgData f_msgGrant f_msgPutAck f_stFree f_stS f_stE f_stM f_stIS f_stIM f_stSM f_stSI f_stEI f_stMI f_stII f_coreCount f_lineCount f_frameCount f_msgCount f_inType f_inTo f_inLine f_inCore f_inInfo f_inAcks a_opKind a_opAddress a_opOperand a_opResult a_opPerformed a_acc a_closedCount a_nextVictim a_frameLine a_frameState a_frameTarget a_frameAcks a_frameGranted a_frameWords a_memory a_current a_homeOwner a_homeSharers a_homeNextOwner a_homeNextSharers a_homeBusy a_homeAwaits a_queueHead a_queueLength a_queueType a_queueCore a_queueInfo a_queueWords a_msgType a_msgTo a_msgLine a_msgCore a_msgInfo a_msgAcks a_msgWords a_inWords hX hL hp hN hgn e1 e2 e3 e4 I
    refine br_f (nI_ge (by omega) (by omega)) (dm_bring (l := i) (by omega) hlc (fun e he z => absurd z (hoc e he)) (fun e he z => absurd z (hoc e he)) I (fun u' hI => ?_))
    rw [dm_ujS, dm_cjS] at hI
    exact nm_r (P := fun x => dm_FLu post p (j + 1) x u') (nI_1 i) (ih (i + 1) (by omega) u' hI)
theorem i_vc_recall {k : Nat} {u : SX} {v : SY} (I : i_Rel k u v) (hk : k + 5 ≤ 2563) (v1 : Int32) (v2 : Int32) : wpX_recall (fun r u' => wpY_recall (fun r' v' => r' = r ∧ i_Rel (k + 5) u' v') v v1 v2) u v1 v2 := by
  refine dm_Rel_el (P := fun u v => wpX_recall (fun r u' => wpY_recall (fun r' v' => r' = r ∧ i_Rel (k + 5) u' v') v v1 v2) u v1 v2) ?_ I
  clear I
  generalize k + 5 = kk
  intro cc lc fc oc ok oa cu k gr ac fr d nd aw n nq R dI dA V pf M f_msgGetS f_msgGetM f_msgPut f_msgDone f_msgCopyBack f_msgFwdS f_msgFwdM f_msgInv f_msgAck f_msgData f_msgGrant f_msgPutAck f_stFree f_stS f_stE f_stM f_stIS f_stIM f_stSM f_stSI f_stEI f_stMI f_stII f_coreCount f_lineCount f_frameCount f_msgCount f_inType f_inTo f_inLine f_inCore f_inInfo f_inAcks a_opKind a_opAddress a_opOperand a_opResult a_opPerformed a_acc a_closedCount a_nextVictim a_frameLine a_frameState a_frameTarget a_frameAcks a_frameGranted a_frameWords a_memory a_current a_homeOwner a_homeSharers a_homeNextOwner a_homeNextSharers a_homeBusy a_homeAwaits a_queueHead a_queueLength a_queueType a_queueCore a_queueInfo a_queueWords a_msgType a_msgTo a_msgLine a_msgCore a_msgInfo a_msgAcks a_msgWords a_inWords y_value y_isOpen y_kindOf y_addressOf hY hX hL hp
  have hZ := hX.1
  have RR : i_Rel kk (f_msgGetS, f_msgGetM, f_msgPut, f_msgDone, f_msgCopyBack, f_msgFwdS, f_msgFwdM, f_msgInv, f_msgAck, f_msgData, f_msgGrant, f_msgPutAck, f_stFree, f_stS, f_stE, f_stM, f_stIS, f_stIM, f_stSM, f_stSI, f_stEI, f_stMI, f_stII, nI cc, nI lc, nI fc, nI M, f_inType, f_inTo, f_inLine, f_inCore, f_inInfo, f_inAcks, a_opKind, a_opAddress, a_opOperand, a_opResult, a_opPerformed, a_acc, a_closedCount, a_nextVictim, a_frameLine, a_frameState, a_frameTarget, a_frameAcks, a_frameGranted, a_frameWords, a_memory, a_current, a_homeOwner, a_homeSharers, a_homeNextOwner, a_homeNextSharers, a_homeBusy, a_homeAwaits, a_queueHead, a_queueLength, a_queueType, a_queueCore, a_queueInfo, a_queueWords, a_msgType, a_msgTo, a_msgLine, a_msgCore, a_msgInfo, a_msgAcks, a_msgWords, a_inWords) (nI cc, nI lc, nI fc, y_value, y_isOpen, y_kindOf, y_addressOf, a_opOperand, a_acc, a_closedCount, a_current) := dm_Rel_mk hY hX hL hp
  have hoc : ∀ e, e < 4 → oc e ≤ 1 ∧ (oc e = 1 → ok e ≤ 5 ∧ oa e < 32) := fun e he => by
    have q := hX.2.2.2.2.2.2.1 e he
    refine ⟨q.1, fun z => ?_⟩
    have := q.2.2.2.1 z
    omega
  unfold wpX_recall
  refine dm_w_isLine hZ.2.2.2.1 (fun l hl e => br_f (by decide) ?_) (fun h => br_t rfl ?_)
  · subst e
    have Yw : ∀ (post : Int32 → SY → Prop), (dm_bz cc oc oa l → post 2 (nI cc, nI lc, nI fc, y_value, y_isOpen, y_kindOf, y_addressOf, a_opOperand, a_acc, a_closedCount, a_current)) → (¬ dm_bz cc oc oa l → post 0 (nI cc, nI lc, nI fc, y_value, y_isOpen, y_kindOf, y_addressOf, a_opOperand, a_acc, a_closedCount, upd a_current l 1)) → wpY_recall post (nI cc, nI lc, nI fc, y_value, y_isOpen, y_kindOf, y_addressOf, a_opOperand, a_acc, a_closedCount, a_current) (nI l) v2 := fun post K2 K0 => by
      unfold wpY_recall
      exact dm_y_l1 hZ.2.2.2.1 hl (br_f (by decide) ⟨cc + 1, dm_y_rc12 hZ.2.1 (by omega) hY hoc K2 K0 cc 0 (by omega) (fun e he => absurd he (Nat.not_lt_zero e))⟩)
    refine ⟨cc + 1, dm_w_rc12 hX hl (fun hb => Yw _ (fun _ => ⟨rfl, RR⟩) (fun z => absurd hb z)) (fun hb => ?_) cc 0 (by omega) (fun e he => absurd he (Nat.not_lt_zero e))⟩
    have hno : ∀ e, e < 4 → oc e = 1 → oa e / 4 ≠ l := fun e he h1 h2 => hb ⟨e, ((hX.2.2.2.2.2.2.1 e he).2.2.2.1 h1).1, h1, h2⟩
    exact dm_bring hl hZ.2.2.2.1 hno (dm_hg8 hZ.2.2.2.1 hX.2.2.2.2.2.2.1) (dm_IB0 hX hL hp) (fun u' hI => Yw _ (fun z => absurd z hb) (fun _ => ⟨rfl, dm_Rel_IB hY hI⟩))
  · unfold wpY_recall
    exact dm_y_l0 hZ.2.2.2.1 h (br_t rfl ⟨rfl, RR⟩)
theorem i_vc_flush {k : Nat} {u : SX} {v : SY} (I : i_Rel k u v) (hk : k + 5 ≤ 2563) (v1 : Int32) : wpX_flush (fun r u' => wpY_flush (fun r' v' => r' = r ∧ i_Rel (k + 5) u' v') v v1) u v1 := by
  refine dm_Rel_el (P := fun u v => wpX_flush (fun r u' => wpY_flush (fun r' v' => r' = r ∧ i_Rel (k + 5) u' v') v v1) u v1) ?_ I
  clear I
  generalize k + 5 = kk
  intro cc lc fc oc ok oa cu k gr ac fr d nd aw n nq R dI dA V pf M f_msgGetS f_msgGetM f_msgPut f_msgDone f_msgCopyBack f_msgFwdS f_msgFwdM f_msgInv f_msgAck f_msgData f_msgGrant f_msgPutAck f_stFree f_stS f_stE f_stM f_stIS f_stIM f_stSM f_stSI f_stEI f_stMI f_stII f_coreCount f_lineCount f_frameCount f_msgCount f_inType f_inTo f_inLine f_inCore f_inInfo f_inAcks a_opKind a_opAddress a_opOperand a_opResult a_opPerformed a_acc a_closedCount a_nextVictim a_frameLine a_frameState a_frameTarget a_frameAcks a_frameGranted a_frameWords a_memory a_current a_homeOwner a_homeSharers a_homeNextOwner a_homeNextSharers a_homeBusy a_homeAwaits a_queueHead a_queueLength a_queueType a_queueCore a_queueInfo a_queueWords a_msgType a_msgTo a_msgLine a_msgCore a_msgInfo a_msgAcks a_msgWords a_inWords y_value y_isOpen y_kindOf y_addressOf hY hX hL hp
  have hZ := hX.1
  have RR : i_Rel kk (f_msgGetS, f_msgGetM, f_msgPut, f_msgDone, f_msgCopyBack, f_msgFwdS, f_msgFwdM, f_msgInv, f_msgAck, f_msgData, f_msgGrant, f_msgPutAck, f_stFree, f_stS, f_stE, f_stM, f_stIS, f_stIM, f_stSM, f_stSI, f_stEI, f_stMI, f_stII, nI cc, nI lc, nI fc, nI M, f_inType, f_inTo, f_inLine, f_inCore, f_inInfo, f_inAcks, a_opKind, a_opAddress, a_opOperand, a_opResult, a_opPerformed, a_acc, a_closedCount, a_nextVictim, a_frameLine, a_frameState, a_frameTarget, a_frameAcks, a_frameGranted, a_frameWords, a_memory, a_current, a_homeOwner, a_homeSharers, a_homeNextOwner, a_homeNextSharers, a_homeBusy, a_homeAwaits, a_queueHead, a_queueLength, a_queueType, a_queueCore, a_queueInfo, a_queueWords, a_msgType, a_msgTo, a_msgLine, a_msgCore, a_msgInfo, a_msgAcks, a_msgWords, a_inWords) (nI cc, nI lc, nI fc, y_value, y_isOpen, y_kindOf, y_addressOf, a_opOperand, a_acc, a_closedCount, a_current) := dm_Rel_mk hY hX hL hp
  have hoc : ∀ e, e < 4 → oc e ≤ 1 := fun e he => (hX.2.2.2.2.2.2.1 e he).1
  have Yw : ∀ (post : Int32 → SY → Prop), ((∃ e, e < cc ∧ oc e = 1) → post 2 (nI cc, nI lc, nI fc, y_value, y_isOpen, y_kindOf, y_addressOf, a_opOperand, a_acc, a_closedCount, a_current)) → ((∀ e, e < cc → oc e = 0) → post 0 (nI cc, nI lc, nI fc, y_value, y_isOpen, y_kindOf, y_addressOf, a_opOperand, a_acc, a_closedCount, dm_cj a_current lc)) → wpY_flush post (nI cc, nI lc, nI fc, y_value, y_isOpen, y_kindOf, y_addressOf, a_opOperand, a_acc, a_closedCount, a_current) v1 := fun post K2 K0 => by
    unfold wpY_flush
    exact ⟨cc + 1, dm_y_fl2 hZ.2.1 hZ.2.2.2.1 hY hoc K2 K0 cc 0 (by omega) (fun e he => absurd he (Nat.not_lt_zero e))⟩
  unfold wpX_flush
  refine ⟨cc + 1, dm_w_fl2 hX (fun hb => Yw _ (fun _ => ⟨rfl, RR⟩) (fun z => ?_)) (fun hb => ?_) cc 0 (by omega) (fun e he => absurd he (Nat.not_lt_zero e))⟩
  · obtain ⟨e, h1, h2⟩ := hb
    have := z e h1
    omega
  · have h4 : ∀ e, e < 4 → oc e ≠ 1 := fun e he z => by
      have h1 := ((hX.2.2.2.2.2.2.1 e he).2.2.2.1 z).1
      have := hb e h1
      omega
    have I0 : dm_IB cc lc fc oc ok oa (dm_uj cu 0) y_value a_acc a_opOperand a_closedCount (dm_cj a_current 0) 8 524 (f_msgGetS, f_msgGetM, f_msgPut, f_msgDone, f_msgCopyBack, f_msgFwdS, f_msgFwdM, f_msgInv, f_msgAck, f_msgData, f_msgGrant, f_msgPutAck, f_stFree, f_stS, f_stE, f_stM, f_stIS, f_stIM, f_stSM, f_stSI, f_stEI, f_stMI, f_stII, nI cc, nI lc, nI fc, nI M, f_inType, f_inTo, f_inLine, f_inCore, f_inInfo, f_inAcks, a_opKind, a_opAddress, a_opOperand, a_opResult, a_opPerformed, a_acc, a_closedCount, a_nextVictim, a_frameLine, a_frameState, a_frameTarget, a_frameAcks, a_frameGranted, a_frameWords, a_memory, a_current, a_homeOwner, a_homeSharers, a_homeNextOwner, a_homeNextSharers, a_homeBusy, a_homeAwaits, a_queueHead, a_queueLength, a_queueType, a_queueCore, a_queueInfo, a_queueWords, a_msgType, a_msgTo, a_msgLine, a_msgCore, a_msgInfo, a_msgAcks, a_msgWords, a_inWords) := by
      rw [dm_uj0, dm_cj0]
      exact dm_IB0 hX hL hp
    have q := dm_fl29 (p := v1) (post := fun r u' => wpY_flush (fun r' v' => r' = r ∧ i_Rel kk u' v') (nI cc, nI lc, nI fc, y_value, y_isOpen, y_kindOf, y_addressOf, a_opOperand, a_acc, a_closedCount, a_current) v1) hZ.2.2.2.1 h4 (fun u' hI => Yw _ (fun ⟨e, h1, h2⟩ => absurd h2 (by have := hb e h1; omega)) (fun _ => ⟨rfl, dm_Rel_IB hY hI⟩)) lc 0 (by omega) (f_msgGetS, f_msgGetM, f_msgPut, f_msgDone, f_msgCopyBack, f_msgFwdS, f_msgFwdM, f_msgInv, f_msgAck, f_msgData, f_msgGrant, f_msgPutAck, f_stFree, f_stS, f_stE, f_stM, f_stIS, f_stIM, f_stSM, f_stSI, f_stEI, f_stMI, f_stII, nI cc, nI lc, nI fc, nI M, f_inType, f_inTo, f_inLine, f_inCore, f_inInfo, f_inAcks, a_opKind, a_opAddress, a_opOperand, a_opResult, a_opPerformed, a_acc, a_closedCount, a_nextVictim, a_frameLine, a_frameState, a_frameTarget, a_frameAcks, a_frameGranted, a_frameWords, a_memory, a_current, a_homeOwner, a_homeSharers, a_homeNextOwner, a_homeNextSharers, a_homeBusy, a_homeAwaits, a_queueHead, a_queueLength, a_queueType, a_queueCore, a_queueInfo, a_queueWords, a_msgType, a_msgTo, a_msgLine, a_msgCore, a_msgInfo, a_msgAcks, a_msgWords, a_inWords) I0
    exact ⟨lc + 1, q⟩
end
section

section
variable {cc lc fc M : Nat} {k gr fr d nd : Nat → Nat → Nat} {ac : Nat → Nat → Int} {aw R dI dA cu oc ok oa pf : Nat → Nat} {n nq : Nat → Nat → Nat → Nat} {V : Nat → Nat → Int32} {val : Nat → Int32} {f_msgGetS f_msgGetM f_msgPut f_msgDone f_msgCopyBack f_msgFwdS f_msgFwdM f_msgInv f_msgAck f_msgData f_msgGrant f_msgPutAck f_stFree f_stS f_stE f_stM f_stIS f_stIM f_stSM f_stSI f_stEI f_stMI f_stII f_coreCount f_lineCount f_frameCount f_msgCount f_inType f_inTo f_inLine f_inCore f_inInfo f_inAcks : Int32} {a_opKind a_opAddress a_opOperand a_opResult a_opPerformed a_acc a_closedCount a_nextVictim a_frameLine a_frameState a_frameTarget a_frameAcks a_frameGranted a_frameWords a_memory a_current a_homeOwner a_homeSharers a_homeNextOwner a_homeNextSharers a_homeBusy a_homeAwaits a_queueHead a_queueLength a_queueType a_queueCore a_queueInfo a_queueWords a_msgType a_msgTo a_msgLine a_msgCore a_msgInfo a_msgAcks a_msgWords a_inWords : Nat → Int32} {A : Nat}
/-- on a word that no open operation writes the component has the reference's value -/
theorem dm_V_val (hX : dm_X cc lc fc k gr ac fr d nd aw n nq R dI dA V oc ok oa pf cu val M a_opKind a_opAddress a_opOperand a_opResult a_opPerformed a_acc a_nextVictim a_frameLine a_frameState a_frameTarget a_frameAcks a_frameGranted a_frameWords a_memory a_current a_homeOwner a_homeSharers a_homeNextOwner a_homeNextSharers a_homeBusy a_homeAwaits a_queueHead a_queueLength a_queueType a_queueCore a_queueInfo a_queueWords a_msgType a_msgTo a_msgLine a_msgCore a_msgInfo a_msgAcks a_msgWords) (hA : A < 4 * lc) (h : ∀ e, e < 4 → oc e = 1 → oa e = A → ok e = 0) : V (A / 4) (A % 4) = val A := by
  have hV := hX.2.2.2.2.2.2.2.1
  rw [hV.1 (A / 4) (A % 4) (by omega) (by omega), show 4 * (A / 4) + A % 4 = A from by omega]
  exact dm_fd_id (fun e he h1 _ h3 => h e he h1 h3)
end
theorem i_vc_homeWord {k : Nat} {u : SX} {v : SY} (I : i_Rel k u v) (hk : k + 5 ≤ 2563) (v1 : Int32) : wpX_homeWord (fun r => wpY_homeWord (fun r' => r' = r ∧ i_Rel (k + 5) u v) v v1) u v1 := by
  refine dm_Rel_el (P := fun u v => wpX_homeWord (fun r => wpY_homeWord (fun r' => r' = r ∧ i_Rel (k + 5) u v) v v1) u v1) ?_ I
  clear I
  generalize k + 5 = kk
  intro cc lc fc oc ok oa cu k gr ac fr d nd aw n nq R dI dA V pf M f_msgGetS f_msgGetM f_msgPut f_msgDone f_msgCopyBack f_msgFwdS f_msgFwdM f_msgInv f_msgAck f_msgData f_msgGrant f_msgPutAck f_stFree f_stS f_stE f_stM f_stIS f_stIM f_stSM f_stSI f_stEI f_stMI f_stII f_coreCount f_lineCount f_frameCount f_msgCount f_inType f_inTo f_inLine f_inCore f_inInfo f_inAcks a_opKind a_opAddress a_opOperand a_opResult a_opPerformed a_acc a_closedCount a_nextVictim a_frameLine a_frameState a_frameTarget a_frameAcks a_frameGranted a_frameWords a_memory a_current a_homeOwner a_homeSharers a_homeNextOwner a_homeNextSharers a_homeBusy a_homeAwaits a_queueHead a_queueLength a_queueType a_queueCore a_queueInfo a_queueWords a_msgType a_msgTo a_msgLine a_msgCore a_msgInfo a_msgAcks a_msgWords a_inWords y_value y_isOpen y_kindOf y_addressOf hY hX hL hp
  have hZ := hX.1
  have RR : i_Rel kk (f_msgGetS, f_msgGetM, f_msgPut, f_msgDone, f_msgCopyBack, f_msgFwdS, f_msgFwdM, f_msgInv, f_msgAck, f_msgData, f_msgGrant, f_msgPutAck, f_stFree, f_stS, f_stE, f_stM, f_stIS, f_stIM, f_stSM, f_stSI, f_stEI, f_stMI, f_stII, nI cc, nI lc, nI fc, nI M, f_inType, f_inTo, f_inLine, f_inCore, f_inInfo, f_inAcks, a_opKind, a_opAddress, a_opOperand, a_opResult, a_opPerformed, a_acc, a_closedCount, a_nextVictim, a_frameLine, a_frameState, a_frameTarget, a_frameAcks, a_frameGranted, a_frameWords, a_memory, a_current, a_homeOwner, a_homeSharers, a_homeNextOwner, a_homeNextSharers, a_homeBusy, a_homeAwaits, a_queueHead, a_queueLength, a_queueType, a_queueCore, a_queueInfo, a_queueWords, a_msgType, a_msgTo, a_msgLine, a_msgCore, a_msgInfo, a_msgAcks, a_msgWords, a_inWords) (nI cc, nI lc, nI fc, y_value, y_isOpen, y_kindOf, y_addressOf, a_opOperand, a_acc, a_closedCount, a_current) := dm_Rel_mk hY hX hL hp
  unfold wpX_homeWord
  refine dm_w_isAddress hZ.2.2.2.1 (fun a ha e => br_f (by decide) ⟨by decide, ?_⟩) (fun h => br_t rfl ?_)
  · subst e
    have hi : vp_in (nI (a / 4)) 8 := vp_in_nI (by omega) (by omega)
    have hcl : (nI (a / 4)).toNatClampNeg = a / 4 := nI_clamp (by omega)
    have hia : vp_in (nI a) 32 := vp_in_nI (by omega) (by omega)
    have hca : (nI a).toNatClampNeg = a := nI_clamp (by omega)
    rw [dm_div4 (by omega)]
    obtain ⟨c1, c2, c3⟩ := hX.2.2.2.2.2.2.2.2.1 (a / 4) (by omega)
    refine ⟨hi, br_c (fun h => ?_) (fun h => ⟨hia, ?_⟩)⟩
    · unfold wpY_homeWord
      refine dm_y_a1 hZ.2.2.2.1 ha (br_f (by decide) ⟨by decide, ?_⟩)
      rw [dm_div4 (by omega)]
      exact ⟨hi, br_t h ⟨rfl, RR⟩⟩
    · unfold wpY_homeWord
      refine dm_y_a1 hZ.2.2.2.1 ha (br_f (by decide) ⟨by decide, ?_⟩)
      rw [dm_div4 (by omega)]
      refine ⟨hi, br_f h ⟨hia, ?_, RR⟩⟩
      rw [hcl, c2] at h
      have hcu : cu (a / 4) = 1 := by
        have : cu (a / 4) ≠ 0 := fun z => h (by rw [z]; rfl)
        omega
      have hm := hX.2.2.2.1 (a / 4) (by omega) (Or.inr hcu) (a % 4) (by omega)
      rw [show 4 * (a / 4) + a % 4 = a from by omega] at hm
      have hv := dm_V_val hX ha (fun e he h1 h2 => c3 hcu e he h1 (by rw [h2]))
      rw [hca, hm, hv]
  · unfold wpY_homeWord
    exact dm_y_a0 hZ.2.2.2.1 h (br_t rfl ⟨rfl, RR⟩)
def dm_ci (f : Nat → Int32) (v : Int32) (i : Nat) : Nat → Int32 := fun x => if x < i then v else f x
theorem dm_ci0 (f : Nat → Int32) (v : Int32) : dm_ci f v 0 = f := by funext x; rw [dm_ci, if_neg (by omega)]
theorem dm_ciS (f : Nat → Int32) (v : Int32) (i : Nat) : upd (dm_ci f v i) i v = dm_ci f v (i + 1) := by
  funext x
  by_cases g : x = i
  · subst g; rw [pk_us, dm_ci, if_pos (by omega)]
  · rw [pk_un g, dm_ci, dm_ci]
    by_cases h : x < i
    · rw [if_pos h, if_pos (by omega)]
    · rw [if_neg h, if_neg (by omega)]
section
variable {f_msgGetS f_msgGetM f_msgPut f_msgDone f_msgCopyBack f_msgFwdS f_msgFwdM f_msgInv f_msgAck f_msgData f_msgGrant f_msgPutAck f_stFree f_stS f_stE f_stM f_stIS f_stIM f_stSM f_stSI f_stEI f_stMI f_stII f_coreCount f_lineCount f_frameCount f_msgCount f_inType f_inTo f_inLine f_inCore f_inInfo f_inAcks : Int32} {a_opKind a_opAddress a_opOperand a_opResult a_opPerformed a_acc a_closedCount a_nextVictim a_frameLine a_frameState a_frameTarget a_frameAcks a_frameGranted a_frameWords a_memory a_current a_homeOwner a_homeSharers a_homeNextOwner a_homeNextSharers a_homeBusy a_homeAwaits a_queueHead a_queueLength a_queueType a_queueCore a_queueInfo a_queueWords a_msgType a_msgTo a_msgLine a_msgCore a_msgInfo a_msgAcks a_msgWords a_inWords : Nat → Int32} {post : SX → Prop}
theorem dm_i536 (K : post (f_msgGetS, f_msgGetM, f_msgPut, f_msgDone, f_msgCopyBack, f_msgFwdS, f_msgFwdM, f_msgInv, f_msgAck, f_msgData, f_msgGrant, f_msgPutAck, f_stFree, f_stS, f_stE, f_stM, f_stIS, f_stIM, f_stSM, f_stSI, f_stEI, f_stMI, f_stII, f_coreCount, f_lineCount, f_frameCount, f_msgCount, f_inType, f_inTo, f_inLine, f_inCore, f_inInfo, f_inAcks, a_opKind, a_opAddress, a_opOperand, a_opResult, a_opPerformed, a_acc, a_closedCount, a_nextVictim, a_frameLine, a_frameState, a_frameTarget, a_frameAcks, a_frameGranted, a_frameWords, a_memory, dm_ci a_current 1 8, dm_ci a_homeOwner (-1) 8, a_homeSharers, dm_ci a_homeNextOwner (-1) 8, a_homeNextSharers, a_homeBusy, a_homeAwaits, a_queueHead, a_queueLength, a_queueType, a_queueCore, a_queueInfo, a_queueWords, a_msgType, a_msgTo, a_msgLine, a_msgCore, a_msgInfo, a_msgAcks, a_msgWords, a_inWords)) : ∀ j i, i + j = 8 → wX_init_536 post f_msgGetS f_msgGetM f_msgPut f_msgDone f_msgCopyBack f_msgFwdS f_msgFwdM f_msgInv f_msgAck f_msgData f_msgGrant f_msgPutAck f_stFree f_stS f_stE f_stM f_stIS f_stIM f_stSM f_stSI f_stEI f_stMI f_stII f_coreCount f_lineCount f_frameCount f_msgCount f_inType f_inTo f_inLine f_inCore f_inInfo f_inAcks (j + 1) (nI i) a_opKind a_opAddress a_opOperand a_opResult a_opPerformed a_acc a_closedCount a_nextVictim a_frameLine a_frameState a_frameTarget a_frameAcks a_frameGranted a_frameWords a_memory (dm_ci a_current 1 i) (dm_ci a_homeOwner (-1) i) a_homeSharers (dm_ci a_homeNextOwner (-1) i) a_homeNextSharers a_homeBusy a_homeAwaits a_queueHead a_queueLength a_queueType a_queueCore a_queueInfo a_queueWords a_msgType a_msgTo a_msgLine a_msgCore a_msgInfo a_msgAcks a_msgWords a_inWords := by
  intro j
  induction j with
  | zero =>
    intro i hi
    obtain rfl : i = 8 := by omega
    exact br_t (nI_le (a := 8) (b := 8) (by omega) (by decide)) K
  | succ j ih =>
    intro i hi
    have hv : vp_in (nI i) 8 := vp_in_nI (by omega) (by omega)
    have hcl : (nI i).toNatClampNeg = i := nI_clamp (by omega)
    exact br_f (nI_ge (b := 8) (by omega) (by decide)) ⟨hv, nm_r ((dm_ub1 hcl).trans (dm_ciS _ _ _)) ⟨hv, nm_r ((dm_ue hcl).trans (dm_ciS _ _ _)) ⟨hv, nm_r ((dm_ue hcl).trans (dm_ciS _ _ _)) (nm_r (nI_1 i) (ih (i + 1) (by omega)))⟩⟩⟩
theorem dm_i512 (K : post (f_msgGetS, f_msgGetM, f_msgPut, f_msgDone, f_msgCopyBack, f_msgFwdS, f_msgFwdM, f_msgInv, f_msgAck, f_msgData, f_msgGrant, f_msgPutAck, f_stFree, f_stS, f_stE, f_stM, f_stIS, f_stIM, f_stSM, f_stSI, f_stEI, f_stMI, f_stII, f_coreCount, f_lineCount, f_frameCount, f_msgCount, f_inType, f_inTo, f_inLine, f_inCore, f_inInfo, f_inAcks, a_opKind, a_opAddress, a_opOperand, a_opResult, a_opPerformed, a_acc, a_closedCount, a_nextVictim, dm_ci a_frameLine (-1) 16, a_frameState, a_frameTarget, a_frameAcks, a_frameGranted, a_frameWords, a_memory, dm_ci a_current 1 8, dm_ci a_homeOwner (-1) 8, a_homeSharers, dm_ci a_homeNextOwner (-1) 8, a_homeNextSharers, a_homeBusy, a_homeAwaits, a_queueHead, a_queueLength, a_queueType, a_queueCore, a_queueInfo, a_queueWords, a_msgType, a_msgTo, a_msgLine, a_msgCore, a_msgInfo, a_msgAcks, a_msgWords, a_inWords)) : ∀ j i, i + j = 16 → wX_init_512 post f_msgGetS f_msgGetM f_msgPut f_msgDone f_msgCopyBack f_msgFwdS f_msgFwdM f_msgInv f_msgAck f_msgData f_msgGrant f_msgPutAck f_stFree f_stS f_stE f_stM f_stIS f_stIM f_stSM f_stSI f_stEI f_stMI f_stII f_coreCount f_lineCount f_frameCount f_msgCount f_inType f_inTo f_inLine f_inCore f_inInfo f_inAcks (j + 1) (nI i) a_opKind a_opAddress a_opOperand a_opResult a_opPerformed a_acc a_closedCount a_nextVictim (dm_ci a_frameLine (-1) i) a_frameState a_frameTarget a_frameAcks a_frameGranted a_frameWords a_memory a_current a_homeOwner a_homeSharers a_homeNextOwner a_homeNextSharers a_homeBusy a_homeAwaits a_queueHead a_queueLength a_queueType a_queueCore a_queueInfo a_queueWords a_msgType a_msgTo a_msgLine a_msgCore a_msgInfo a_msgAcks a_msgWords a_inWords := by
  intro j
  induction j with
  | zero =>
    intro i hi
    obtain rfl : i = 16 := by omega
    have q := dm_i536 (post := post) K 8 0 (by omega)
    rw [dm_ci0, dm_ci0, dm_ci0] at q
    exact br_t (nI_le (a := 16) (b := 16) (by omega) (by decide)) ⟨9, q⟩
  | succ j ih =>
    intro i hi
    have hv : vp_in (nI i) 16 := vp_in_nI (by omega) (by omega)
    have hcl : (nI i).toNatClampNeg = i := nI_clamp (by omega)
    exact br_f (nI_ge (b := 16) (by omega) (by decide)) ⟨hv, nm_r ((dm_ue hcl).trans (dm_ciS _ _ _)) (nm_r (nI_1 i) (ih (i + 1) (by omega)))⟩
theorem dm_i489 (K : post (f_msgGetS, f_msgGetM, f_msgPut, f_msgDone, f_msgCopyBack, f_msgFwdS, f_msgFwdM, f_msgInv, f_msgAck, f_msgData, f_msgGrant, f_msgPutAck, f_stFree, f_stS, f_stE, f_stM, f_stIS, f_stIM, f_stSM, f_stSI, f_stEI, f_stMI, f_stII, f_coreCount, f_lineCount, f_frameCount, f_msgCount, f_inType, f_inTo, f_inLine, f_inCore, f_inInfo, f_inAcks, dm_ci a_opKind (-1) 4, a_opAddress, a_opOperand, a_opResult, a_opPerformed, a_acc, a_closedCount, a_nextVictim, dm_ci a_frameLine (-1) 16, a_frameState, a_frameTarget, a_frameAcks, a_frameGranted, a_frameWords, a_memory, dm_ci a_current 1 8, dm_ci a_homeOwner (-1) 8, a_homeSharers, dm_ci a_homeNextOwner (-1) 8, a_homeNextSharers, a_homeBusy, a_homeAwaits, a_queueHead, a_queueLength, a_queueType, a_queueCore, a_queueInfo, a_queueWords, a_msgType, a_msgTo, a_msgLine, a_msgCore, a_msgInfo, a_msgAcks, a_msgWords, a_inWords)) : ∀ j i, i + j = 4 → wX_init_489 post f_msgGetS f_msgGetM f_msgPut f_msgDone f_msgCopyBack f_msgFwdS f_msgFwdM f_msgInv f_msgAck f_msgData f_msgGrant f_msgPutAck f_stFree f_stS f_stE f_stM f_stIS f_stIM f_stSM f_stSI f_stEI f_stMI f_stII f_coreCount f_lineCount f_frameCount f_msgCount f_inType f_inTo f_inLine f_inCore f_inInfo f_inAcks (j + 1) (nI i) (dm_ci a_opKind (-1) i) a_opAddress a_opOperand a_opResult a_opPerformed a_acc a_closedCount a_nextVictim a_frameLine a_frameState a_frameTarget a_frameAcks a_frameGranted a_frameWords a_memory a_current a_homeOwner a_homeSharers a_homeNextOwner a_homeNextSharers a_homeBusy a_homeAwaits a_queueHead a_queueLength a_queueType a_queueCore a_queueInfo a_queueWords a_msgType a_msgTo a_msgLine a_msgCore a_msgInfo a_msgAcks a_msgWords a_inWords := by
  intro j
  induction j with
  | zero =>
    intro i hi
    obtain rfl : i = 4 := by omega
    have q := dm_i512 (post := post) K 16 0 (by omega)
    rw [dm_ci0] at q
    exact br_t (nI_le (a := 4) (b := 4) (by omega) (by decide)) ⟨17, q⟩
  | succ j ih =>
    intro i hi
    have hv : vp_in (nI i) 4 := vp_in_nI (by omega) (by omega)
    have hcl : (nI i).toNatClampNeg = i := nI_clamp (by omega)
    exact br_f (nI_ge (b := 4) (by omega) (by decide)) ⟨hv, nm_r ((dm_ue hcl).trans (dm_ciS _ _ _)) (nm_r (nI_1 i) (ih (i + 1) (by omega)))⟩
theorem dm_clamp {pc : Int32 → Prop} {p a b : Int32} {na nb : Nat} (ea : a = nI na) (eb : b = nI nb) (hab : na ≤ nb) (hb : nb < 100) (K : ∀ m, na ≤ m → m ≤ nb → (p = nI m ∨ (¬ a ≤ p ∧ m = na) ∨ (a ≤ p ∧ ¬ p ≤ b ∧ m = nb)) → pc (nI m)) : wpX_clamp pc (f_msgGetS, f_msgGetM, f_msgPut, f_msgDone, f_msgCopyBack, f_msgFwdS, f_msgFwdM, f_msgInv, f_msgAck, f_msgData, f_msgGrant, f_msgPutAck, f_stFree, f_stS, f_stE, f_stM, f_stIS, f_stIM, f_stSM, f_stSI, f_stEI, f_stMI, f_stII, f_coreCount, f_lineCount, f_frameCount, f_msgCount, f_inType, f_inTo, f_inLine, f_inCore, f_inInfo, f_inAcks, a_opKind, a_opAddress, a_opOperand, a_opResult, a_opPerformed, a_acc, a_closedCount, a_nextVictim, a_frameLine, a_frameState, a_frameTarget, a_frameAcks, a_frameGranted, a_frameWords, a_memory, a_current, a_homeOwner, a_homeSharers, a_homeNextOwner, a_homeNextSharers, a_homeBusy, a_homeAwaits, a_queueHead, a_queueLength, a_queueType, a_queueCore, a_queueInfo, a_queueWords, a_msgType, a_msgTo, a_msgLine, a_msgCore, a_msgInfo, a_msgAcks, a_msgWords, a_inWords) p a b := by
  subst ea eb
  refine br_c (fun h1 => br_c (fun h2 => ?_) (fun h2 => K nb hab (Nat.le_refl _) (Or.inr (Or.inr ⟨h1, h2, rfl⟩)))) (fun h1 => K na (Nat.le_refl _) hab (Or.inr (Or.inl ⟨h1, rfl⟩)))
  have h0 : ¬ p < 0 := fun z => by
    rw [Int32.lt_iff_toInt_lt, show (0 : Int32).toInt = 0 from by decide] at z
    rw [Int32.le_iff_toInt_le, nI_toInt (by omega)] at h1
    omega
  obtain ⟨j, hj, rfl⟩ := nI_of h0
  rw [nI_leI (by omega) hj] at h1
  rw [nI_leI hj (by omega)] at h2
  exact K j h1 h2 (Or.inl rfl)
end
theorem dm_L_zero (cu : Nat) : dm_L (fun _ => 0) (fun _ => 0) (fun _ => 0) (fun _ => 0) (fun _ => 0) 0 (fun _ _ => 0) (fun _ _ => 0) 0 1 0 cu := by
  refine ⟨⟨fun c hc => ?_, ?_, fun c hc => ?_⟩, fun _ => rfl⟩
  · exact ⟨Nat.zero_le _, rfl, rfl, rfl, rfl, fun z => absurd z (show ¬ dm_t2 0 = 1 by decide), Nat.zero_le _, fun _ => rfl, Nat.zero_le _, Nat.zero_le _, Nat.zero_le _, fun _ => rfl⟩
  · refine ⟨rfl, by decide, by decide, rfl, by decide, fun z => absurd z (by decide), fun _ => rfl, fun z => absurd z (by decide), fun z => absurd z (by decide), fun z => absurd z (by decide), fun z => absurd z (by decide), fun z => absurd z (by decide), fun z => absurd z (by decide), fun z => absurd z (by decide), fun z => absurd z (by decide), fun z => absurd z (by decide), fun z => absurd z (by decide), fun z => absurd z (by decide), fun _ => ⟨rfl, fun z => absurd z (by decide)⟩⟩
  · exact ⟨fun _ => rfl, fun z => absurd z (by decide), fun z => absurd z (by decide)⟩
theorem dm_x_zero {cc lc fc : Nat} (h : 2 ≤ cc ∧ cc ≤ 4 ∧ 1 ≤ lc ∧ lc ≤ 8 ∧ 1 ≤ fc ∧ fc ≤ 4) :
    dm_X cc lc fc (fun _ _ => 0) (fun _ _ => 0) (fun _ _ => 0) (fun _ _ => 0) (fun _ _ => 0) (fun _ _ => 0) (fun _ => 0) (fun _ _ _ => 0) (fun _ _ _ => 0) (fun _ => 0) (fun _ => 1) (fun _ => 0) (fun _ _ => 0) (fun _ => 0) (fun _ => 0) (fun _ => 0) (fun _ => 0) (fun _ => 1) (fun _ => 0) 0 (dm_ci (fun _ => 0) (-1) 4) (fun _ => 0) (fun _ => 0) (fun _ => 0) (fun _ => 0) (fun _ => 0) (fun _ => 0) (dm_ci (fun _ => 0) (-1) 16) (fun _ => 0) (fun _ => 0) (fun _ => 0) (fun _ => 0) (fun _ => 0) (fun _ => 0) (dm_ci (fun _ => 0) 1 8) (dm_ci (fun _ => 0) (-1) 8) (fun _ => 0) (dm_ci (fun _ => 0) (-1) 8) (fun _ => 0) (fun _ => 0) (fun _ => 0) (fun _ => 0) (fun _ => 0) (fun _ => 0) (fun _ => 0) (fun _ => 0) (fun _ => 0) (fun _ => 0) (fun _ => 0) (fun _ => 0) (fun _ => 0) (fun _ => 0) (fun _ => 0) (fun _ => 0) := by
  have z01 : ¬ (0 : Nat) = 1 := by decide
  have z02 : (0 : Nat) ≠ 2 := by decide
  refine ⟨h, ⟨fun _ _ _ => rfl, fun _ _ _ _ z => absurd rfl z, fun c f hc hf => Or.inl (if_pos (by omega))⟩, fun l hl => ?_, fun l hl _ i hi => rfl, fun l hl => ?_, ⟨rfl, fun _ => (0, 0, 0), fun i hi => absurd hi (Nat.not_lt_zero i), fun _ _ _ => rfl⟩, fun c hc => ?_, ⟨fun l i hl hi => ?_, fun c hc z => absurd z z01, fun c e hc he hne z => absurd z z01⟩, fun l hl => ⟨Nat.le_refl 1, if_pos (by omega), fun _ c hc z => absurd z z01⟩, fun c hc => ⟨0, by omega, rfl⟩⟩
  · exact ⟨Or.inl ⟨if_pos (by omega), fun _ _ => z02⟩, dm_DS_0 (fun _ _ => z01), Or.inl ⟨if_pos (by omega), fun _ _ => z02⟩, dm_DS_0 (fun _ _ => z01), rfl, rfl⟩
  · exact ⟨0, by omega, rfl, rfl, fun _ => (0, 0, 0), fun j hj => absurd hj (Nat.not_lt_zero j), fun _ _ => rfl⟩
  · exact ⟨Nat.zero_le _, Nat.zero_le _, fun _ => ⟨if_pos hc, rfl⟩, fun z => absurd z z01, rfl⟩
  · rw [dm_fd_id (fun e he z => absurd z z01)]
section
variable {y_coreCount y_lineCount y_frameCount : Int32} {y_value y_isOpen y_kindOf y_addressOf y_operandOf y_acc y_finished y_current : Nat → Int32} {post : SY → Prop}
theorem dm_y160 (K : post (y_coreCount, y_lineCount, y_frameCount, y_value, y_isOpen, y_kindOf, y_addressOf, y_operandOf, y_acc, y_finished, dm_ci y_current 1 8)) : ∀ j i, i + j = 8 → wY_init_160 post y_coreCount y_lineCount y_frameCount (j + 1) (nI i) y_value y_isOpen y_kindOf y_addressOf y_operandOf y_acc y_finished (dm_ci y_current 1 i) := by
  intro j
  induction j with
  | zero =>
    intro i hi
    obtain rfl : i = 8 := by omega
    exact br_t (nI_le (a := 8) (b := 8) (by omega) (by decide)) K
  | succ j ih =>
    intro i hi
    have hcl : (nI i).toNatClampNeg = i := nI_clamp (by omega)
    exact br_f (nI_ge (b := 8) (by omega) (by decide)) ⟨vp_in_nI (by omega) (by omega), nm_r ((dm_ub1 hcl).trans (dm_ciS _ _ _)) (nm_r (nI_1 i) (ih (i + 1) (by omega)))⟩
/-- one clamp of the reference -/
theorem dm_ycl {A B : Int32 → Prop} {p a b : Int32} {na nb m : Nat} (ea : a = nI na) (eb : b = nI nb) (hab : na ≤ nb) (hb : nb < 100) (h1 : na ≤ m) (h2 : m ≤ nb) (hm : p = nI m ∨ (¬ a ≤ p ∧ m = na) ∨ (a ≤ p ∧ ¬ p ≤ b ∧ m = nb))
    (hA : ∀ q, A q ↔ ((q ≤ b → B q) ∧ (¬ q ≤ b → B b))) (K : B (nI m)) : (a ≤ p → A p) ∧ (¬ a ≤ p → A a) := by
  subst ea eb
  have hl : ∀ q, q ≤ nb → B (nI q) → A (nI q) := fun q hq k => (hA _).mpr (br_t (nI_le hq (by omega)) k)
  rcases hm with rfl | ⟨g, rfl⟩ | ⟨g1, g2, rfl⟩
  · exact br_t (nI_le h1 (by omega)) (hl m h2 K)
  · exact br_f g (hl m hab K)
  · exact br_t g1 ((hA _).mpr (br_f g2 K))
end
theorem i_vc0 (k0 : Int32) (k1 : Int32) (k2 : Int32) : wpX_init (fun u => wpY_init (fun v => i_Rel 3 u v) k0 k1 k2) k0 k1 k2 := by
  unfold wpX_init
  refine dm_clamp (na := 2) (nb := 4) rfl rfl (by omega) (by omega) (fun cc hc1 hc2 hcm => ?_)
  refine dm_clamp (na := 1) (nb := 8) rfl rfl (by omega) (by omega) (fun lc hl1 hl2 hlm => ?_)
  refine dm_clamp (na := 1) (nb := 4) rfl rfl (by omega) (by omega) (fun fc hf1 hf2 hfm => ?_)
  have Yw : ∀ post : SY → Prop, post (nI cc, nI lc, nI fc, (fun _ => 0), (fun _ => 0), (fun _ => 0), (fun _ => 0), (fun _ => 0), (fun _ => 0), (fun _ => 0), dm_ci (fun _ => 0) 1 8) → wpY_init post k0 k1 k2 := fun post K => by
    have q := dm_y160 (post := post) K 8 0 (by omega)
    rw [dm_ci0] at q
    refine dm_ycl (na := 2) (nb := 4) (B := fun q => wY_init_93 post k1 k2 q 0 0 (fun _ => 0) (fun _ => 0) (fun _ => 0) (fun _ => 0) (fun _ => 0) (fun _ => 0) (fun _ => 0) (fun _ => 0)) rfl rfl (by omega) (by omega) hc1 hc2 hcm (fun q => Iff.rfl) ?_
    refine dm_ycl (na := 1) (nb := 8) (B := fun q => wY_init_126 post k2 (nI cc) q 0 (fun _ => 0) (fun _ => 0) (fun _ => 0) (fun _ => 0) (fun _ => 0) (fun _ => 0) (fun _ => 0) (fun _ => 0)) rfl rfl (by omega) (by omega) hl1 hl2 hlm (fun q => Iff.rfl) ?_
    exact dm_ycl (na := 1) (nb := 4) (B := fun q => ∃ n160 : Nat, wY_init_160 post (nI cc) (nI lc) q n160 0 (fun _ => 0) (fun _ => 0) (fun _ => 0) (fun _ => 0) (fun _ => 0) (fun _ => 0) (fun _ => 0) (fun _ => 0)) rfl rfl (by omega) (by omega) hf1 hf2 hfm (fun q => Iff.rfl) ⟨9, q⟩
  have hX := dm_x_zero (cc := cc) (lc := lc) (fc := fc) ⟨hc1, hc2, hl1, hl2, hf1, hf2⟩
  have q := dm_i489 (f_msgGetS := 0) (f_msgGetM := 1) (f_msgPut := 2) (f_msgDone := 3) (f_msgCopyBack := 4) (f_msgFwdS := 5) (f_msgFwdM := 6) (f_msgInv := 7) (f_msgAck := 8) (f_msgData := 9) (f_msgGrant := 10) (f_msgPutAck := 11) (f_stFree := 0) (f_stS := 1) (f_stE := 2) (f_stM := 3) (f_stIS := 4) (f_stIM := 5) (f_stSM := 6) (f_stSI := 7) (f_stEI := 8) (f_stMI := 9) (f_stII := 10) (f_coreCount := nI cc) (f_lineCount := nI lc) (f_frameCount := nI fc) (f_msgCount := 0) (f_inType := 0) (f_inTo := 0) (f_inLine := 0) (f_inCore := 0) (f_inInfo := 0) (f_inAcks := 0) (a_opKind := fun _ => 0) (a_opAddress := fun _ => 0) (a_opOperand := fun _ => 0) (a_opResult := fun _ => 0) (a_opPerformed := fun _ => 0) (a_acc := fun _ => 0) (a_closedCount := fun _ => 0) (a_nextVictim := fun _ => 0) (a_frameLine := fun _ => 0) (a_frameState := fun _ => 0) (a_frameTarget := fun _ => 0) (a_frameAcks := fun _ => 0) (a_frameGranted := fun _ => 0) (a_frameWords := fun _ => 0) (a_memory := fun _ => 0) (a_current := fun _ => 0) (a_homeOwner := fun _ => 0) (a_homeSharers := fun _ => 0) (a_homeNextOwner := fun _ => 0) (a_homeNextSharers := fun _ => 0) (a_homeBusy := fun _ => 0) (a_homeAwaits := fun _ => 0) (a_queueHead := fun _ => 0) (a_queueLength := fun _ => 0) (a_queueType := fun _ => 0) (a_queueCore := fun _ => 0) (a_queueInfo := fun _ => 0) (a_queueWords := fun _ => 0) (a_msgType := fun _ => 0) (a_msgTo := fun _ => 0) (a_msgLine := fun _ => 0) (a_msgCore := fun _ => 0) (a_msgInfo := fun _ => 0) (a_msgAcks := fun _ => 0) (a_msgWords := fun _ => 0) (a_inWords := fun _ => 0) (post := fun u => wpY_init (fun v => i_Rel 3 u v) k0 k1 k2) (Yw _ (dm_Rel_mk (fun c hc => ⟨rfl, fun z => absurd z (by decide)⟩) hX (fun l hl => dm_L_zero 1) (fun e he z => absurd z (by decide)))) 4 0 (by omega)
  rw [dm_ci0] at q
  exact ⟨5, q⟩
end
section

def dm_rd (x : Nat) : Nat := if x = 1 ∨ x = 2 ∨ x = 3 ∨ x = 6 ∨ x = 13 then 1 else 0
def dm_wr (x : Nat) : Nat := if x = 2 ∨ x = 3 then 1 else 0
def dm_ps (f : Nat → Nat) : Nat → Nat
  | 0 => 0
  | j + 1 => dm_ps f j + f j
theorem dm_ps_pos {f : Nat → Nat} : ∀ m, 1 ≤ dm_ps f m → ∃ e, e < m ∧ 1 ≤ f e := by
  intro m
  induction m with
  | zero => intro h; simp only [dm_ps] at h; omega
  | succ m ih =>
    intro h
    simp only [dm_ps] at h
    by_cases g : 1 ≤ f m
    · exact ⟨m, by omega, g⟩
    · obtain ⟨e, h1, h2⟩ := ih (by omega)
      exact ⟨e, by omega, h2⟩
theorem dm_ps_zero {f : Nat → Nat} : ∀ m, (∀ x, x < m → f x = 0) → dm_ps f m = 0 := by
  intro m
  induction m with
  | zero => intro _; rfl
  | succ m ih =>
    intro h
    have h1 := ih (fun x hx => h x (by omega))
    have h2 := h m (by omega)
    simp only [dm_ps]; omega
theorem dm_ps_one {f : Nat → Nat} {e : Nat} : ∀ m, e < m → (∀ x, x < m → x ≠ e → f x = 0) → dm_ps f m = f e := by
  intro m
  induction m with
  | zero => intro h; omega
  | succ m ih =>
    intro h hz
    simp only [dm_ps]
    by_cases g : e = m
    · subst g
      rw [dm_ps_zero e (fun x hx => hz x (by omega) (by omega))]; omega
    · rw [ih (by omega) (fun x hx hne => hz x (by omega) hne), hz m (by omega) (fun z => g z.symm)]
      rfl
theorem dm_ps_le {f : Nat → Nat} (h : ∀ x, f x ≤ 1) : ∀ m, dm_ps f m ≤ m := by
  intro m
  induction m with
  | zero => exact Nat.le_refl _
  | succ m ih => have := h m; simp only [dm_ps]; omega
theorem dm_rd_st {x : Nat} (h : x ≤ 17) : (dm_st x = 1 ∨ dm_st x = 2 ∨ dm_st x = 3 ∨ dm_st x = 6) ↔ dm_rd x = 1 := by
  by_cases g : x ≤ 10
  · rw [dm_st, if_pos g, dm_rd]; split <;> omega
  · rw [dm_st, if_neg g, dm_rd]; split <;> omega
theorem dm_wr_st {x : Nat} (h : x ≤ 17) : (dm_st x = 2 ∨ dm_st x = 3) ↔ dm_wr x = 1 := by
  by_cases g : x ≤ 10
  · rw [dm_st, if_pos g, dm_wr]; split <;> omega
  · rw [dm_st, if_neg g, dm_wr]; split <;> omega
theorem dm_rd_ro {x : Nat} (h : dm_rd x = 1) : dm_ro x ≠ 0 := by
  have : x = 1 ∨ x = 2 ∨ x = 3 ∨ x = 6 ∨ x = 13 := by rw [dm_rd] at h; split at h <;> omega
  rcases this with e | e | e | e | e <;> rw [e] <;> decide
theorem dm_rd1 (x : Nat) : dm_rd x ≤ 1 := by rw [dm_rd]; split <;> omega
theorem dm_wr1 (x : Nat) : dm_wr x ≤ 1 := by rw [dm_wr]; split <;> omega
section
variable {f_msgGetS f_msgGetM f_msgPut f_msgDone f_msgCopyBack f_msgFwdS f_msgFwdM f_msgInv f_msgAck f_msgData f_msgGrant f_msgPutAck f_stFree f_stS f_stE f_stM f_stIS f_stIM f_stSM f_stSI f_stEI f_stMI f_stII f_coreCount f_lineCount f_frameCount f_msgCount f_inType f_inTo f_inLine f_inCore f_inInfo f_inAcks : Int32} {a_opKind a_opAddress a_opOperand a_opResult a_opPerformed a_acc a_closedCount a_nextVictim a_frameLine a_frameState a_frameTarget a_frameAcks a_frameGranted a_frameWords a_memory a_current a_homeOwner a_homeSharers a_homeNextOwner a_homeNextSharers a_homeBusy a_homeAwaits a_queueHead a_queueLength a_queueType a_queueCore a_queueInfo a_queueWords a_msgType a_msgTo a_msgLine a_msgCore a_msgInfo a_msgAcks a_msgWords a_inWords : Nat → Int32} {post : Int32 → Prop}
theorem dm_w_same {q o : Nat} (hq : q < 16) (ho : o < 16) (h : ∀ i, i < 4 → a_frameWords (4 * q + i) = a_frameWords (4 * o + i)) (K : post 1) : wpX_sameWords post (f_msgGetS, f_msgGetM, f_msgPut, f_msgDone, f_msgCopyBack, f_msgFwdS, f_msgFwdM, f_msgInv, f_msgAck, f_msgData, f_msgGrant, f_msgPutAck, f_stFree, f_stS, f_stE, f_stM, f_stIS, f_stIM, f_stSM, f_stSI, f_stEI, f_stMI, f_stII, f_coreCount, f_lineCount, f_frameCount, f_msgCount, f_inType, f_inTo, f_inLine, f_inCore, f_inInfo, f_inAcks, a_opKind, a_opAddress, a_opOperand, a_opResult, a_opPerformed, a_acc, a_closedCount, a_nextVictim, a_frameLine, a_frameState, a_frameTarget, a_frameAcks, a_frameGranted, a_frameWords, a_memory, a_current, a_homeOwner, a_homeSharers, a_homeNextOwner, a_homeNextSharers, a_homeBusy, a_homeAwaits, a_queueHead, a_queueLength, a_queueType, a_queueCore, a_queueInfo, a_queueWords, a_msgType, a_msgTo, a_msgLine, a_msgCore, a_msgInfo, a_msgAcks, a_msgWords, a_inWords) (nI q) (nI o) := by
  have l : ∀ j i, i + j = 4 → wX_sameWords_2 post (nI q) (nI o) f_msgGetS f_msgGetM f_msgPut f_msgDone f_msgCopyBack f_msgFwdS f_msgFwdM f_msgInv f_msgAck f_msgData f_msgGrant f_msgPutAck f_stFree f_stS f_stE f_stM f_stIS f_stIM f_stSM f_stSI f_stEI f_stMI f_stII f_coreCount f_lineCount f_frameCount f_msgCount f_inType f_inTo f_inLine f_inCore f_inInfo f_inAcks a_opKind a_opAddress a_opOperand a_opResult a_opPerformed a_acc a_closedCount a_nextVictim a_frameLine a_frameState a_frameTarget a_frameAcks a_frameGranted a_frameWords a_memory a_current a_homeOwner a_homeSharers a_homeNextOwner a_homeNextSharers a_homeBusy a_homeAwaits a_queueHead a_queueLength a_queueType a_queueCore a_queueInfo a_queueWords a_msgType a_msgTo a_msgLine a_msgCore a_msgInfo a_msgAcks a_msgWords a_inWords (j + 1) (nI i) := by
    intro j
    induction j with
    | zero =>
      intro i hi
      obtain rfl : i = 4 := by omega
      exact br_t (nI_le (a := 4) (b := 4) (by omega) (by decide)) K
    | succ j ih =>
      intro i hi
      have c1 : (nI q * 4 + nI i).toNatClampNeg = 4 * q + i := by rw [dm_ix, nI_clamp (by omega)]
      have c2 : (nI o * 4 + nI i).toNatClampNeg = 4 * o + i := by rw [dm_ix, nI_clamp (by omega)]
      exact br_f (nI_ge (b := 4) (by omega) (by decide)) ⟨by rw [dm_ix]; exact vp_in_nI (by omega) (by omega), by rw [dm_ix]; exact vp_in_nI (by omega) (by omega), br_t (by rw [c1, c2]; exact h i (by omega)) (nm_r (nI_1 i) (ih (i + 1) (by omega)))⟩
  exact ⟨5, l 4 0 (by omega)⟩
theorem dm_w_match {q l : Nat} (hq : q < 16) (hl : l < 8) (h : ∀ i, i < 4 → a_frameWords (4 * q + i) = a_memory (4 * l + i)) (K : post 1) : wpX_matchesMemory post (f_msgGetS, f_msgGetM, f_msgPut, f_msgDone, f_msgCopyBack, f_msgFwdS, f_msgFwdM, f_msgInv, f_msgAck, f_msgData, f_msgGrant, f_msgPutAck, f_stFree, f_stS, f_stE, f_stM, f_stIS, f_stIM, f_stSM, f_stSI, f_stEI, f_stMI, f_stII, f_coreCount, f_lineCount, f_frameCount, f_msgCount, f_inType, f_inTo, f_inLine, f_inCore, f_inInfo, f_inAcks, a_opKind, a_opAddress, a_opOperand, a_opResult, a_opPerformed, a_acc, a_closedCount, a_nextVictim, a_frameLine, a_frameState, a_frameTarget, a_frameAcks, a_frameGranted, a_frameWords, a_memory, a_current, a_homeOwner, a_homeSharers, a_homeNextOwner, a_homeNextSharers, a_homeBusy, a_homeAwaits, a_queueHead, a_queueLength, a_queueType, a_queueCore, a_queueInfo, a_queueWords, a_msgType, a_msgTo, a_msgLine, a_msgCore, a_msgInfo, a_msgAcks, a_msgWords, a_inWords) (nI q) (nI l) := by
  have l : ∀ j i, i + j = 4 → wX_matchesMemory_2 post (nI q) (nI l) f_msgGetS f_msgGetM f_msgPut f_msgDone f_msgCopyBack f_msgFwdS f_msgFwdM f_msgInv f_msgAck f_msgData f_msgGrant f_msgPutAck f_stFree f_stS f_stE f_stM f_stIS f_stIM f_stSM f_stSI f_stEI f_stMI f_stII f_coreCount f_lineCount f_frameCount f_msgCount f_inType f_inTo f_inLine f_inCore f_inInfo f_inAcks a_opKind a_opAddress a_opOperand a_opResult a_opPerformed a_acc a_closedCount a_nextVictim a_frameLine a_frameState a_frameTarget a_frameAcks a_frameGranted a_frameWords a_memory a_current a_homeOwner a_homeSharers a_homeNextOwner a_homeNextSharers a_homeBusy a_homeAwaits a_queueHead a_queueLength a_queueType a_queueCore a_queueInfo a_queueWords a_msgType a_msgTo a_msgLine a_msgCore a_msgInfo a_msgAcks a_msgWords a_inWords (j + 1) (nI i) := by
    intro j
    induction j with
    | zero =>
      intro i hi
      obtain rfl : i = 4 := by omega
      exact br_t (nI_le (a := 4) (b := 4) (by omega) (by decide)) K
    | succ j ih =>
      intro i hi
      have c1 : (nI q * 4 + nI i).toNatClampNeg = 4 * q + i := by rw [dm_ix, nI_clamp (by omega)]
      have c2 : (nI l * 4 + nI i).toNatClampNeg = 4 * l + i := by rw [dm_ix, nI_clamp (by omega)]
      exact br_f (nI_ge (b := 4) (by omega) (by decide)) ⟨by rw [dm_ix]; exact vp_in_nI (by omega) (by omega), by rw [dm_ix]; exact vp_in_nI (by omega) (by omega), br_t (by rw [c1, c2]; exact h i (by omega)) (nm_r (nI_1 i) (ih (i + 1) (by omega)))⟩
  exact ⟨5, l 4 0 (by omega)⟩
end
section
variable {cc lc fc M : Nat} {k gr fr d nd : Nat → Nat → Nat} {ac : Nat → Nat → Int} {aw R dI dA cu oc ok oa pf : Nat → Nat} {n nq : Nat → Nat → Nat → Nat} {V : Nat → Nat → Int32} {val : Nat → Int32} {f_msgGetS f_msgGetM f_msgPut f_msgDone f_msgCopyBack f_msgFwdS f_msgFwdM f_msgInv f_msgAck f_msgData f_msgGrant f_msgPutAck f_stFree f_stS f_stE f_stM f_stIS f_stIM f_stSM f_stSI f_stEI f_stMI f_stII f_coreCount f_lineCount f_frameCount f_msgCount f_inType f_inTo f_inLine f_inCore f_inInfo f_inAcks : Int32} {a_opKind a_opAddress a_opOperand a_opResult a_opPerformed a_acc a_closedCount a_nextVictim a_frameLine a_frameState a_frameTarget a_frameAcks a_frameGranted a_frameWords a_memory a_current a_homeOwner a_homeSharers a_homeNextOwner a_homeNextSharers a_homeBusy a_homeAwaits a_queueHead a_queueLength a_queueType a_queueCore a_queueInfo a_queueWords a_msgType a_msgTo a_msgLine a_msgCore a_msgInfo a_msgAcks a_msgWords a_inWords : Nat → Int32} {post : Int32 → Prop} {l : Nat}
theorem dm_lc10 (hX : dm_X cc lc fc k gr ac fr d nd aw n nq R dI dA V oc ok oa pf cu val M a_opKind a_opAddress a_opOperand a_opResult a_opPerformed a_acc a_nextVictim a_frameLine a_frameState a_frameTarget a_frameAcks a_frameGranted a_frameWords a_memory a_current a_homeOwner a_homeSharers a_homeNextOwner a_homeNextSharers a_homeBusy a_homeAwaits a_queueHead a_queueLength a_queueType a_queueCore a_queueInfo a_queueWords a_msgType a_msgTo a_msgLine a_msgCore a_msgInfo a_msgAcks a_msgWords) (hL : dm_LL 8 k gr ac d nd aw n nq R dI dA cu) (hl : l < lc) (K : post 1) : ∀ j i, i + j = cc → ∀ f w : Int32, (f = -1 ∨ ∃ q, q < 16 ∧ f = nI q ∧ ∀ t, t < 4 → a_frameWords (4 * q + t) = V l t) → ((w = 0 ∧ dm_ps (fun e => dm_wr (k l e)) i = 0) ∨ (w = 1 ∧ 1 ≤ dm_ps (fun e => dm_wr (k l e)) i)) →
    wX_lineCoherent_10 post (nI l) f_msgGetS f_msgGetM f_msgPut f_msgDone f_msgCopyBack f_msgFwdS f_msgFwdM f_msgInv f_msgAck f_msgData f_msgGrant f_msgPutAck f_stFree f_stS f_stE f_stM f_stIS f_stIM f_stSM f_stSI f_stEI f_stMI f_stII (nI cc) (nI lc) (nI fc) (nI M) f_inType f_inTo f_inLine f_inCore f_inInfo f_inAcks a_opKind a_opAddress a_opOperand a_opResult a_opPerformed a_acc a_closedCount a_nextVictim a_frameLine a_frameState a_frameTarget a_frameAcks a_frameGranted a_frameWords a_memory a_current a_homeOwner a_homeSharers a_homeNextOwner a_homeNextSharers a_homeBusy a_homeAwaits a_queueHead a_queueLength a_queueType a_queueCore a_queueInfo a_queueWords a_msgType a_msgTo a_msgLine a_msgCore a_msgInfo a_msgAcks a_msgWords a_inWords (j + 1) f (nI (dm_ps (fun e => dm_rd (k l e)) i)) w (nI i) := by
  have hZ := hX.1
  have hl8 : l < 8 := by omega
  have hvl : vp_in (nI l) 8 := vp_in_nI hl8 (by omega)
  have hcl : (nI l).toNatClampNeg = l := nI_clamp (by omega)
  obtain ⟨c1, c2, c3⟩ := hX.2.2.2.2.2.2.2.2.1 l hl
  intro j
  induction j with
  | zero =>
    intro i hi f w hf hw
    obtain rfl : i = cc := by omega
    refine br_t (nI_le (Nat.le_refl _) (by omega)) ?_
    rcases hw with ⟨rfl, _⟩ | ⟨rfl, hw⟩
    · exact br_t rfl K
    · refine br_f (by decide) ?_
      obtain ⟨e, he, hwe⟩ := dm_ps_pos i hw
      have hwe1 : dm_wr (k l e) = 1 := by have := dm_wr1 (k l e); omega
      have hk : k l e = 2 ∨ k l e = 3 := by rw [dm_wr] at hwe1; split at hwe1 <;> omega
      have how : dm_ow (k l e) = 1 := by rcases hk with h | h <;> rw [h] <;> rfl
      have hex := dm_ex1 (hL l hl8).1.2.1 (show e < 4 by omega) how
      have h1 : dm_ps (fun e => dm_rd (k l e)) i = 1 := by
        rw [dm_ps_one (e := e) i he (fun x hx hne => ?_)]
        · rcases hk with h | h <;> rw [h] <;> rfl
        · have := hex x (by omega) hne
          have h2 := dm_rd1 (k l x)
          have h3 : ¬ dm_rd (k l x) = 1 := fun z => dm_rd_ro z this
          show dm_rd (k l x) = 0
          omega
      rw [h1]
      exact br_t rfl K
  | succ j ih =>
    intro i hi f w hf hw
    have hps := dm_ps_le (f := fun e => dm_rd (k l e)) (fun x => dm_rd1 _) i
    have same : dm_rd (k l i) = 0 → wX_lineCoherent_10 post (nI l) f_msgGetS f_msgGetM f_msgPut f_msgDone f_msgCopyBack f_msgFwdS f_msgFwdM f_msgInv f_msgAck f_msgData f_msgGrant f_msgPutAck f_stFree f_stS f_stE f_stM f_stIS f_stIM f_stSM f_stSI f_stEI f_stMI f_stII (nI cc) (nI lc) (nI fc) (nI M) f_inType f_inTo f_inLine f_inCore f_inInfo f_inAcks a_opKind a_opAddress a_opOperand a_opResult a_opPerformed a_acc a_closedCount a_nextVictim a_frameLine a_frameState a_frameTarget a_frameAcks a_frameGranted a_frameWords a_memory a_current a_homeOwner a_homeSharers a_homeNextOwner a_homeNextSharers a_homeBusy a_homeAwaits a_queueHead a_queueLength a_queueType a_queueCore a_queueInfo a_queueWords a_msgType a_msgTo a_msgLine a_msgCore a_msgInfo a_msgAcks a_msgWords a_inWords (j + 1) f (nI (dm_ps (fun e => dm_rd (k l e)) i)) w (nI (i + 1)) := fun h0 => by
      have hw0 : dm_wr (k l i) = 0 := by
        have h1 : ¬ dm_wr (k l i) = 1 := fun z => by
          have : k l i = 2 ∨ k l i = 3 := by rw [dm_wr] at z; split at z <;> omega
          rw [dm_rd, if_pos (by omega)] at h0; omega
        have := dm_wr1 (k l i); omega
      have e2 : dm_ps (fun e => dm_wr (k l e)) (i + 1) = dm_ps (fun e => dm_wr (k l e)) i := by simp only [dm_ps]; omega
      have q := ih (i + 1) (by omega) f w hf (by rw [e2]; exact hw)
      have e : dm_ps (fun e => dm_rd (k l e)) (i + 1) = dm_ps (fun e => dm_rd (k l e)) i := by simp only [dm_ps]; omega
      rw [e] at q
      exact q
    refine br_f (nI_ge (by omega) (by omega)) (dm_find hX (by omega) hl (fun hk0 => br_f (nI_pos (by have := dm_stE hX hL hk0; omega)) ?_) (fun hk0 => br_t (by decide) (nm_r (nI_1 i) (same (by rw [hk0]; rfl)))))
    obtain ⟨q1, q2, q17, q3⟩ := dm_stE hX hL hk0
    obtain ⟨g1, g2, g3, g4, g5, g6, g7⟩ := dm_RF_at hX.2.1 hk0
    have nrd : ¬ (dm_st (k l i) = 1 ∨ dm_st (k l i) = 2 ∨ dm_st (k l i) = 3 ∨ dm_st (k l i) = 6) → dm_rd (k l i) = 0 := fun h => by
      have h1 : ¬ dm_rd (k l i) = 1 := fun z => h ((dm_rd_st q17).mpr z)
      have := dm_rd1 (k l i)
      omega
    refine dm_w_all0 q1 q2 q3 (fun h => br_f (by decide) (nm_r (nI_1 _) ?_)) (fun h => br_t rfl (nm_r (nI_1 i) (same (nrd h))))
    have hrd : dm_rd (k l i) = 1 := (dm_rd_st q17).mp h
    have hwd := g7 (Or.inl (dm_rd_ro hrd))
    have go : ∀ w' : Int32, ((w' = 0 ∧ dm_ps (fun e => dm_wr (k l e)) (i + 1) = 0) ∨ (w' = 1 ∧ 1 ≤ dm_ps (fun e => dm_wr (k l e)) (i + 1))) → wX_lineCoherent_59 post (wX_lineCoherent_10 post (nI l) f_msgGetS f_msgGetM f_msgPut f_msgDone f_msgCopyBack f_msgFwdS f_msgFwdM f_msgInv f_msgAck f_msgData f_msgGrant f_msgPutAck f_stFree f_stS f_stE f_stM f_stIS f_stIM f_stSM f_stSI f_stEI f_stMI f_stII (nI cc) (nI lc) (nI fc) (nI M) f_inType f_inTo f_inLine f_inCore f_inInfo f_inAcks a_opKind a_opAddress a_opOperand a_opResult a_opPerformed a_acc a_closedCount a_nextVictim a_frameLine a_frameState a_frameTarget a_frameAcks a_frameGranted a_frameWords a_memory a_current a_homeOwner a_homeSharers a_homeNextOwner a_homeNextSharers a_homeBusy a_homeAwaits a_queueHead a_queueLength a_queueType a_queueCore a_queueInfo a_queueWords a_msgType a_msgTo a_msgLine a_msgCore a_msgInfo a_msgAcks a_msgWords a_inWords (j + 1)) (nI l) f (nI (dm_ps (fun e => dm_rd (k l e)) i + 1)) w' (nI i) (nI (4 * i + fr l i)) f_msgGetS f_msgGetM f_msgPut f_msgDone f_msgCopyBack f_msgFwdS f_msgFwdM f_msgInv f_msgAck f_msgData f_msgGrant f_msgPutAck f_stFree f_stS f_stE f_stM f_stIS f_stIM f_stSM f_stSI f_stEI f_stMI f_stII (nI cc) (nI lc) (nI fc) (nI M) f_inType f_inTo f_inLine f_inCore f_inInfo f_inAcks a_opKind a_opAddress a_opOperand a_opResult a_opPerformed a_acc a_closedCount a_nextVictim a_frameLine a_frameState a_frameTarget a_frameAcks a_frameGranted a_frameWords a_memory a_current a_homeOwner a_homeSharers a_homeNextOwner a_homeNextSharers a_homeBusy a_homeAwaits a_queueHead a_queueLength a_queueType a_queueCore a_queueInfo a_queueWords a_msgType a_msgTo a_msgLine a_msgCore a_msgInfo a_msgAcks a_msgWords a_inWords := fun w' hw' => by
      have inner : ∀ o, o < 16 → (∀ t, t < 4 → a_frameWords (4 * o + t) = V l t) → wX_lineCoherent_66 post (wX_lineCoherent_10 post (nI l) f_msgGetS f_msgGetM f_msgPut f_msgDone f_msgCopyBack f_msgFwdS f_msgFwdM f_msgInv f_msgAck f_msgData f_msgGrant f_msgPutAck f_stFree f_stS f_stE f_stM f_stIS f_stIM f_stSM f_stSI f_stEI f_stMI f_stII (nI cc) (nI lc) (nI fc) (nI M) f_inType f_inTo f_inLine f_inCore f_inInfo f_inAcks a_opKind a_opAddress a_opOperand a_opResult a_opPerformed a_acc a_closedCount a_nextVictim a_frameLine a_frameState a_frameTarget a_frameAcks a_frameGranted a_frameWords a_memory a_current a_homeOwner a_homeSharers a_homeNextOwner a_homeNextSharers a_homeBusy a_homeAwaits a_queueHead a_queueLength a_queueType a_queueCore a_queueInfo a_queueWords a_msgType a_msgTo a_msgLine a_msgCore a_msgInfo a_msgAcks a_msgWords a_inWords (j + 1)) (nI l) (nI o) (nI (dm_ps (fun e => dm_rd (k l e)) i + 1)) w' (nI i) (nI (4 * i + fr l i)) f_msgGetS f_msgGetM f_msgPut f_msgDone f_msgCopyBack f_msgFwdS f_msgFwdM f_msgInv f_msgAck f_msgData f_msgGrant f_msgPutAck f_stFree f_stS f_stE f_stM f_stIS f_stIM f_stSM f_stSI f_stEI f_stMI f_stII (nI cc) (nI lc) (nI fc) (nI M) f_inType f_inTo f_inLine f_inCore f_inInfo f_inAcks a_opKind a_opAddress a_opOperand a_opResult a_opPerformed a_acc a_closedCount a_nextVictim a_frameLine a_frameState a_frameTarget a_frameAcks a_frameGranted a_frameWords a_memory a_current a_homeOwner a_homeSharers a_homeNextOwner a_homeNextSharers a_homeBusy a_homeAwaits a_queueHead a_queueLength a_queueType a_queueCore a_queueInfo a_queueWords a_msgType a_msgTo a_msgLine a_msgCore a_msgInfo a_msgAcks a_msgWords a_inWords := fun o ho hov => by
        have next : wX_lineCoherent_10 post (nI l) f_msgGetS f_msgGetM f_msgPut f_msgDone f_msgCopyBack f_msgFwdS f_msgFwdM f_msgInv f_msgAck f_msgData f_msgGrant f_msgPutAck f_stFree f_stS f_stE f_stM f_stIS f_stIM f_stSM f_stSI f_stEI f_stMI f_stII (nI cc) (nI lc) (nI fc) (nI M) f_inType f_inTo f_inLine f_inCore f_inInfo f_inAcks a_opKind a_opAddress a_opOperand a_opResult a_opPerformed a_acc a_closedCount a_nextVictim a_frameLine a_frameState a_frameTarget a_frameAcks a_frameGranted a_frameWords a_memory a_current a_homeOwner a_homeSharers a_homeNextOwner a_homeNextSharers a_homeBusy a_homeAwaits a_queueHead a_queueLength a_queueType a_queueCore a_queueInfo a_queueWords a_msgType a_msgTo a_msgLine a_msgCore a_msgInfo a_msgAcks a_msgWords a_inWords (j + 1) (nI o) (nI (dm_ps (fun e => dm_rd (k l e)) i + 1)) w' (nI (i + 1)) := by
          have q := ih (i + 1) (by omega) (nI o) w' (Or.inr ⟨o, ho, rfl, hov⟩) hw'
          have e : dm_ps (fun e => dm_rd (k l e)) (i + 1) = dm_ps (fun e => dm_rd (k l e)) i + 1 := by simp only [dm_ps]; omega
          rw [e] at q
          exact q
        unfold wX_lineCoherent_66
        refine dm_w_same q1 ho (fun t ht => (hwd t ht).trans (hov t ht).symm) (br_f (by decide) ⟨hvl, br_c (fun _ => nm_r (nI_1 i) next) (fun hc => ?_)⟩)
        rw [hcl, c2] at hc
        have hcu : cu l = 1 := by
          have : cu l ≠ 0 := fun z => hc (by rw [z]; rfl)
          omega
        have hm := hX.2.2.2.1 l hl (Or.inr hcu)
        exact dm_w_match q1 hl8 (fun t ht => (hwd t ht).trans (hm t ht).symm) (br_f (by decide) (nm_r (nI_1 i) next))
      rcases hf with rfl | ⟨q, hq, rfl, hqv⟩
      · exact br_f (by decide) (inner _ q1 hwd)
      · exact br_t (nI_pos' (by omega)) (inner q hq hqv)
    refine dm_w_all1 q1 q2 (by decide) q3 (fun h2 => br_f (by decide) (go 1 (Or.inr ⟨rfl, ?_⟩))) (fun h2 => br_t rfl (go w ?_))
    · have := (dm_wr_st q17).mp h2
      simp only [dm_ps]; omega
    · have h3 : ¬ dm_wr (k l i) = 1 := fun z => h2 ((dm_wr_st q17).mpr z)
      have := dm_wr1 (k l i)
      have e2 : dm_ps (fun e => dm_wr (k l e)) (i + 1) = dm_ps (fun e => dm_wr (k l e)) i := by simp only [dm_ps]; omega
      rw [e2]; exact hw
theorem dm_coh2 (hX : dm_X cc lc fc k gr ac fr d nd aw n nq R dI dA V oc ok oa pf cu val M a_opKind a_opAddress a_opOperand a_opResult a_opPerformed a_acc a_nextVictim a_frameLine a_frameState a_frameTarget a_frameAcks a_frameGranted a_frameWords a_memory a_current a_homeOwner a_homeSharers a_homeNextOwner a_homeNextSharers a_homeBusy a_homeAwaits a_queueHead a_queueLength a_queueType a_queueCore a_queueInfo a_queueWords a_msgType a_msgTo a_msgLine a_msgCore a_msgInfo a_msgAcks a_msgWords) (hL : dm_LL 8 k gr ac d nd aw n nq R dI dA cu) (K : post 1) : ∀ j i, i + j = lc → wX_coherent_2 post f_msgGetS f_msgGetM f_msgPut f_msgDone f_msgCopyBack f_msgFwdS f_msgFwdM f_msgInv f_msgAck f_msgData f_msgGrant f_msgPutAck f_stFree f_stS f_stE f_stM f_stIS f_stIM f_stSM f_stSI f_stEI f_stMI f_stII (nI cc) (nI lc) (nI fc) (nI M) f_inType f_inTo f_inLine f_inCore f_inInfo f_inAcks a_opKind a_opAddress a_opOperand a_opResult a_opPerformed a_acc a_closedCount a_nextVictim a_frameLine a_frameState a_frameTarget a_frameAcks a_frameGranted a_frameWords a_memory a_current a_homeOwner a_homeSharers a_homeNextOwner a_homeNextSharers a_homeBusy a_homeAwaits a_queueHead a_queueLength a_queueType a_queueCore a_queueInfo a_queueWords a_msgType a_msgTo a_msgLine a_msgCore a_msgInfo a_msgAcks a_msgWords a_inWords (j + 1) (nI i) := by
  have hZ := hX.1
  intro j
  induction j with
  | zero =>
    intro i hi
    obtain rfl : i = lc := by omega
    exact br_t (nI_le (Nat.le_refl _) (by omega)) K
  | succ j ih =>
    intro i hi
    exact br_f (nI_ge (by omega) (by omega)) ⟨cc + 1, dm_lc10 hX hL (by omega) (br_f (by decide) (nm_r (nI_1 i) (ih (i + 1) (by omega)))) cc 0 (by omega) (-1) 0 (Or.inl rfl) (Or.inl ⟨rfl, rfl⟩)⟩
end
theorem i_vc_coherent {k : Nat} {u : SX} {v : SY} (I : i_Rel k u v) (hk : k + 5 ≤ 2563) : wpX_coherent (fun r => wpY_coherent (fun r' => r' = r ∧ i_Rel (k + 5) u v) v) u := by
  refine dm_Rel_el (P := fun u v => wpX_coherent (fun r => wpY_coherent (fun r' => r' = r ∧ i_Rel (k + 5) u v) v) u) ?_ I
  clear I
  generalize k + 5 = kk
  intro cc lc fc oc ok oa cu k gr ac fr d nd aw n nq R dI dA V pf M f_msgGetS f_msgGetM f_msgPut f_msgDone f_msgCopyBack f_msgFwdS f_msgFwdM f_msgInv f_msgAck f_msgData f_msgGrant f_msgPutAck f_stFree f_stS f_stE f_stM f_stIS f_stIM f_stSM f_stSI f_stEI f_stMI f_stII f_coreCount f_lineCount f_frameCount f_msgCount f_inType f_inTo f_inLine f_inCore f_inInfo f_inAcks a_opKind a_opAddress a_opOperand a_opResult a_opPerformed a_acc a_closedCount a_nextVictim a_frameLine a_frameState a_frameTarget a_frameAcks a_frameGranted a_frameWords a_memory a_current a_homeOwner a_homeSharers a_homeNextOwner a_homeNextSharers a_homeBusy a_homeAwaits a_queueHead a_queueLength a_queueType a_queueCore a_queueInfo a_queueWords a_msgType a_msgTo a_msgLine a_msgCore a_msgInfo a_msgAcks a_msgWords a_inWords y_value y_isOpen y_kindOf y_addressOf hY hX hL hp
  exact ⟨lc + 1, dm_coh2 hX hL (And.intro rfl (dm_Rel_mk hY hX hL hp)) lc 0 (by omega)⟩
end
section

section
variable {cc lc fc M : Nat} {k gr fr d nd : Nat → Nat → Nat} {ac : Nat → Nat → Int} {aw R dI dA cu oc ok oa pf : Nat → Nat} {n nq : Nat → Nat → Nat → Nat} {V : Nat → Nat → Int32} {val : Nat → Int32} {f_msgGetS f_msgGetM f_msgPut f_msgDone f_msgCopyBack f_msgFwdS f_msgFwdM f_msgInv f_msgAck f_msgData f_msgGrant f_msgPutAck f_stFree f_stS f_stE f_stM f_stIS f_stIM f_stSM f_stSI f_stEI f_stMI f_stII f_coreCount f_lineCount f_frameCount f_msgCount f_inType f_inTo f_inLine f_inCore f_inInfo f_inAcks : Int32} {a_opKind a_opAddress a_opOperand a_opResult a_opPerformed a_acc a_closedCount a_nextVictim a_frameLine a_frameState a_frameTarget a_frameAcks a_frameGranted a_frameWords a_memory a_current a_homeOwner a_homeSharers a_homeNextOwner a_homeNextSharers a_homeBusy a_homeAwaits a_queueHead a_queueLength a_queueType a_queueCore a_queueInfo a_queueWords a_msgType a_msgTo a_msgLine a_msgCore a_msgInfo a_msgAcks a_msgWords a_inWords : Nat → Int32} {post : Int32 → Prop} {l c w : Nat}
theorem dm_slot {i : Nat} (hX : dm_X cc lc fc k gr ac fr d nd aw n nq R dI dA V oc ok oa pf cu val M a_opKind a_opAddress a_opOperand a_opResult a_opPerformed a_acc a_nextVictim a_frameLine a_frameState a_frameTarget a_frameAcks a_frameGranted a_frameWords a_memory a_current a_homeOwner a_homeSharers a_homeNextOwner a_homeNextSharers a_homeBusy a_homeAwaits a_queueHead a_queueLength a_queueType a_queueCore a_queueInfo a_queueWords a_msgType a_msgTo a_msgLine a_msgCore a_msgInfo a_msgAcks a_msgWords) (hi : i < M) : ∃ l' t' c', l' < lc ∧ t' < 12 ∧ c' < 4 ∧ 1 ≤ n l' t' c' ∧ a_msgLine i = nI l' ∧ a_msgType i = nI t' ∧ dm_CM k V R dI dA l' t' c' (a_msgTo i) (a_msgCore i) (a_msgInfo i) (a_msgAcks i) (fun j => a_msgWords (4 * i + j)) := by
  obtain ⟨hM, ky, hk, hn⟩ := hX.2.2.2.2.2.1
  obtain ⟨h1, h2, h3, h4, h5, h6⟩ := hk i hi
  exact ⟨_, _, _, h1, h2, h3, by rw [← hn]; exact dm_cn_pos (i := i) _ hi rfl, h4, h5, h6⟩
theorem dm_slot_ex {t : Nat} (hX : dm_X cc lc fc k gr ac fr d nd aw n nq R dI dA V oc ok oa pf cu val M a_opKind a_opAddress a_opOperand a_opResult a_opPerformed a_acc a_nextVictim a_frameLine a_frameState a_frameTarget a_frameAcks a_frameGranted a_frameWords a_memory a_current a_homeOwner a_homeSharers a_homeNextOwner a_homeNextSharers a_homeBusy a_homeAwaits a_queueHead a_queueLength a_queueType a_queueCore a_queueInfo a_queueWords a_msgType a_msgTo a_msgLine a_msgCore a_msgInfo a_msgAcks a_msgWords) (hn : 1 ≤ n l t c) : ∃ i, i < M ∧ a_msgLine i = nI l ∧ a_msgType i = nI t ∧ dm_CM k V R dI dA l t c (a_msgTo i) (a_msgCore i) (a_msgInfo i) (a_msgAcks i) (fun j => a_msgWords (4 * i + j)) := by
  obtain ⟨hM, ky, hk, hnn⟩ := hX.2.2.2.2.2.1
  rw [← hnn] at hn
  obtain ⟨i, hi, e⟩ := dm_cn_ex M hn
  obtain ⟨h1, h2, h3, h4, h5, h6⟩ := hk i hi
  rw [e] at h4 h5 h6
  exact ⟨i, hi, h4, h5, h6⟩
theorem dm_w_pack2 (hM : M ≤ 80) (hc : c < 4) (hl : l < 8) (K1 : (∃ i, i < M ∧ a_msgType i = 11 ∧ a_msgTo i = nI c ∧ a_msgLine i = nI l) → post 1) (K0 : (∀ i, i < M → ¬ (a_msgType i = 11 ∧ a_msgTo i = nI c ∧ a_msgLine i = nI l)) → post 0) : wpX_putAckUnderWay post (f_msgGetS, f_msgGetM, f_msgPut, f_msgDone, f_msgCopyBack, f_msgFwdS, f_msgFwdM, f_msgInv, f_msgAck, f_msgData, f_msgGrant, f_msgPutAck, f_stFree, f_stS, f_stE, f_stM, f_stIS, f_stIM, f_stSM, f_stSI, f_stEI, f_stMI, f_stII, nI cc, nI lc, nI fc, nI M, f_inType, f_inTo, f_inLine, f_inCore, f_inInfo, f_inAcks, a_opKind, a_opAddress, a_opOperand, a_opResult, a_opPerformed, a_acc, a_closedCount, a_nextVictim, a_frameLine, a_frameState, a_frameTarget, a_frameAcks, a_frameGranted, a_frameWords, a_memory, a_current, a_homeOwner, a_homeSharers, a_homeNextOwner, a_homeNextSharers, a_homeBusy, a_homeAwaits, a_queueHead, a_queueLength, a_queueType, a_queueCore, a_queueInfo, a_queueWords, a_msgType, a_msgTo, a_msgLine, a_msgCore, a_msgInfo, a_msgAcks, a_msgWords, a_inWords) (nI c) (nI l) := by
  have lp : ∀ j i, i + j = M → (∀ x, x < i → ¬ (a_msgType x = 11 ∧ a_msgTo x = nI c ∧ a_msgLine x = nI l)) → wX_putAckUnderWay_2 post (nI c) (nI l) f_msgGetS f_msgGetM f_msgPut f_msgDone f_msgCopyBack f_msgFwdS f_msgFwdM f_msgInv f_msgAck f_msgData f_msgGrant f_msgPutAck f_stFree f_stS f_stE f_stM f_stIS f_stIM f_stSM f_stSI f_stEI f_stMI f_stII (nI cc) (nI lc) (nI fc) (nI M) f_inType f_inTo f_inLine f_inCore f_inInfo f_inAcks a_opKind a_opAddress a_opOperand a_opResult a_opPerformed a_acc a_closedCount a_nextVictim a_frameLine a_frameState a_frameTarget a_frameAcks a_frameGranted a_frameWords a_memory a_current a_homeOwner a_homeSharers a_homeNextOwner a_homeNextSharers a_homeBusy a_homeAwaits a_queueHead a_queueLength a_queueType a_queueCore a_queueInfo a_queueWords a_msgType a_msgTo a_msgLine a_msgCore a_msgInfo a_msgAcks a_msgWords a_inWords (j + 1) (nI i) := by
    intro j
    induction j with
    | zero =>
      intro i hi hno
      obtain rfl : i = M := by omega
      exact br_t (nI_le (Nat.le_refl _) (by omega)) (K0 hno)
    | succ j ih =>
      intro i hi hno
      have hv : vp_in (nI i) 128 := vp_in_nI (by omega) (by omega)
      have hcl : (nI i).toNatClampNeg = i := nI_clamp (by omega)
      have next : ¬ (a_msgType i = 11 ∧ a_msgTo i = nI c ∧ a_msgLine i = nI l) → wX_putAckUnderWay_2 post (nI c) (nI l) f_msgGetS f_msgGetM f_msgPut f_msgDone f_msgCopyBack f_msgFwdS f_msgFwdM f_msgInv f_msgAck f_msgData f_msgGrant f_msgPutAck f_stFree f_stS f_stE f_stM f_stIS f_stIM f_stSM f_stSI f_stEI f_stMI f_stII (nI cc) (nI lc) (nI fc) (nI M) f_inType f_inTo f_inLine f_inCore f_inInfo f_inAcks a_opKind a_opAddress a_opOperand a_opResult a_opPerformed a_acc a_closedCount a_nextVictim a_frameLine a_frameState a_frameTarget a_frameAcks a_frameGranted a_frameWords a_memory a_current a_homeOwner a_homeSharers a_homeNextOwner a_homeNextSharers a_homeBusy a_homeAwaits a_queueHead a_queueLength a_queueType a_queueCore a_queueInfo a_queueWords a_msgType a_msgTo a_msgLine a_msgCore a_msgInfo a_msgAcks a_msgWords a_inWords (j + 1) (nI (i + 1)) := fun h => ih (i + 1) (by omega) fun x hx => by
        by_cases g : x = i
        · subst g; exact h
        · exact hno x (by omega)
      refine br_f (nI_ge (by omega) (by omega)) ⟨hv, ?_⟩
      rw [hcl]
      exact br_c (fun h1 => ⟨hv, br_c (fun h2 => ⟨hv, br_c (fun h3 => K1 ⟨i, by omega, h1, h2, h3⟩) (fun h3 => nm_r (nI_1 i) (next (fun z => h3 z.2.2)))⟩) (fun h2 => nm_r (nI_1 i) (next (fun z => h2 z.2.1)))⟩) (fun h1 => nm_r (nI_1 i) (next (fun z => h1 z.1)))
  exact ⟨M + 1, lp M 0 (by omega) (fun x hx => absurd hx (Nat.not_lt_zero x))⟩
theorem dm_pw111 (hX : dm_X cc lc fc k gr ac fr d nd aw n nq R dI dA V oc ok oa pf cu val M a_opKind a_opAddress a_opOperand a_opResult a_opPerformed a_acc a_nextVictim a_frameLine a_frameState a_frameTarget a_frameAcks a_frameGranted a_frameWords a_memory a_current a_homeOwner a_homeSharers a_homeNextOwner a_homeNextSharers a_homeBusy a_homeAwaits a_queueHead a_queueLength a_queueType a_queueCore a_queueInfo a_queueWords a_msgType a_msgTo a_msgLine a_msgCore a_msgInfo a_msgAcks a_msgWords) (hL : dm_LL 8 k gr ac d nd aw n nq R dI dA cu) (hl : l < lc) (hw : w < 4) (hr : ∀ e, e < cc → dm_rd (k l e) = 0) (hms : ∀ i, i < M → ¬ (a_msgLine i = nI l ∧ (a_msgType i = 9 ∨ a_msgType i = 4))) (K : post (V l w)) : ∀ j i, i + j = cc → (∀ e, e < i → k l e ≠ 8 ∧ k l e ≠ 9) → wX_presentWord_111 post (nI l) (nI w) f_msgGetS f_msgGetM f_msgPut f_msgDone f_msgCopyBack f_msgFwdS f_msgFwdM f_msgInv f_msgAck f_msgData f_msgGrant f_msgPutAck f_stFree f_stS f_stE f_stM f_stIS f_stIM f_stSM f_stSI f_stEI f_stMI f_stII (nI cc) (nI lc) (nI fc) (nI M) f_inType f_inTo f_inLine f_inCore f_inInfo f_inAcks a_opKind a_opAddress a_opOperand a_opResult a_opPerformed a_acc a_closedCount a_nextVictim a_frameLine a_frameState a_frameTarget a_frameAcks a_frameGranted a_frameWords a_memory a_current a_homeOwner a_homeSharers a_homeNextOwner a_homeNextSharers a_homeBusy a_homeAwaits a_queueHead a_queueLength a_queueType a_queueCore a_queueInfo a_queueWords a_msgType a_msgTo a_msgLine a_msgCore a_msgInfo a_msgAcks a_msgWords a_inWords (j + 1) (nI i) := by
  have hZ := hX.1
  have hM80 := dm_M80 hX hL
  intro j
  induction j with
  | zero =>
    intro i hi hno
    obtain rfl : i = cc := by omega
    refine br_t (nI_le (Nat.le_refl _) (by omega)) ?_
    have c1 : (nI l * 4 + nI w).toNatClampNeg = 4 * l + w := by rw [dm_ix, nI_clamp (by omega)]
    refine ⟨by rw [dm_ix]; exact vp_in_nI (by omega) (by omega), ?_⟩
    rw [c1]
    have none : ∀ t, t = 9 ∨ t = 4 → dm_s4 (n l t) = 0 := fun t ht => by
      apply Classical.byContradiction
      intro z
      obtain ⟨c, hc, h1⟩ := dm_s4_pos (f := n l t) (by omega)
      obtain ⟨s, hs, e1, e2, _⟩ := dm_slot_ex hX h1
      refine hms s hs ⟨e1, ?_⟩
      rcases ht with rfl | rfl
      · exact Or.inl e2
      · exact Or.inr e2
    have hdt : dm_s4 (fun e => dm_dt (k l e)) = 0 := by
      have z : ∀ e, e < 4 → dm_dt (k l e) = 0 := fun e he => by
        by_cases g : e < i
        · have h1 := hr e g
          have h2 := (hno e g).2
          rw [dm_rd] at h1
          split at h1
          · omega
          · rw [dm_dt, if_neg (by omega)]
        · rw [hX.2.1.1 l e (by omega)]; rfl
      simp only [dm_s4]; rw [z 0 (by omega), z 1 (by omega), z 2 (by omega), z 3 (by omega)]
    rw [hX.2.2.2.1 l hl (Or.inl ⟨none 4 (Or.inr rfl), Or.inl (none 9 (Or.inl rfl)), hdt⟩) w hw]
    exact K
  | succ j ih =>
    intro i hi hno
    have next : (k l i ≠ 8 ∧ k l i ≠ 9) → wX_presentWord_111 post (nI l) (nI w) f_msgGetS f_msgGetM f_msgPut f_msgDone f_msgCopyBack f_msgFwdS f_msgFwdM f_msgInv f_msgAck f_msgData f_msgGrant f_msgPutAck f_stFree f_stS f_stE f_stM f_stIS f_stIM f_stSM f_stSI f_stEI f_stMI f_stII (nI cc) (nI lc) (nI fc) (nI M) f_inType f_inTo f_inLine f_inCore f_inInfo f_inAcks a_opKind a_opAddress a_opOperand a_opResult a_opPerformed a_acc a_closedCount a_nextVictim a_frameLine a_frameState a_frameTarget a_frameAcks a_frameGranted a_frameWords a_memory a_current a_homeOwner a_homeSharers a_homeNextOwner a_homeNextSharers a_homeBusy a_homeAwaits a_queueHead a_queueLength a_queueType a_queueCore a_queueInfo a_queueWords a_msgType a_msgTo a_msgLine a_msgCore a_msgInfo a_msgAcks a_msgWords a_inWords (j + 1) (nI (i + 1)) := fun h => ih (i + 1) (by omega) fun e he => by
      by_cases g : e = i
      · subst g; exact h
      · exact hno e (by omega)
    refine br_f (nI_ge (by omega) (by omega)) (dm_find hX (by omega) hl (fun hk0 => br_f (nI_pos (by have := dm_stE hX hL hk0; omega)) ?_) (fun hk0 => br_t (by decide) (nm_r (nI_1 i) (next (by omega)))))
    obtain ⟨q1, q2, q17, q3⟩ := dm_stE hX hL hk0
    obtain ⟨g1, g2, g3, g4, g5, g6, g7⟩ := dm_RF_at hX.2.1 hk0
    have hv : vp_in (nI (4 * i + fr l i)) 16 := vp_in_nI q1 (by omega)
    have hcl : (nI (4 * i + fr l i)).toNatClampNeg = 4 * i + fr l i := nI_clamp (by omega)
    have h11 := ((hL l (by omega)).1.1 i (by omega)).2.2.2.2.1
    have go : (dm_st (k l i) = 8 ∨ dm_st (k l i) = 9) → wX_presentWord_156 post (wX_presentWord_111 post (nI l) (nI w) f_msgGetS f_msgGetM f_msgPut f_msgDone f_msgCopyBack f_msgFwdS f_msgFwdM f_msgInv f_msgAck f_msgData f_msgGrant f_msgPutAck f_stFree f_stS f_stE f_stM f_stIS f_stIM f_stSM f_stSI f_stEI f_stMI f_stII (nI cc) (nI lc) (nI fc) (nI M) f_inType f_inTo f_inLine f_inCore f_inInfo f_inAcks a_opKind a_opAddress a_opOperand a_opResult a_opPerformed a_acc a_closedCount a_nextVictim a_frameLine a_frameState a_frameTarget a_frameAcks a_frameGranted a_frameWords a_memory a_current a_homeOwner a_homeSharers a_homeNextOwner a_homeNextSharers a_homeBusy a_homeAwaits a_queueHead a_queueLength a_queueType a_queueCore a_queueInfo a_queueWords a_msgType a_msgTo a_msgLine a_msgCore a_msgInfo a_msgAcks a_msgWords a_inWords (j + 1)) (nI l) (nI w) (nI i) (nI (4 * i + fr l i)) f_msgGetS f_msgGetM f_msgPut f_msgDone f_msgCopyBack f_msgFwdS f_msgFwdM f_msgInv f_msgAck f_msgData f_msgGrant f_msgPutAck f_stFree f_stS f_stE f_stM f_stIS f_stIM f_stSM f_stSI f_stEI f_stMI f_stII (nI cc) (nI lc) (nI fc) (nI M) f_inType f_inTo f_inLine f_inCore f_inInfo f_inAcks a_opKind a_opAddress a_opOperand a_opResult a_opPerformed a_acc a_closedCount a_nextVictim a_frameLine a_frameState a_frameTarget a_frameAcks a_frameGranted a_frameWords a_memory a_current a_homeOwner a_homeSharers a_homeNextOwner a_homeNextSharers a_homeBusy a_homeAwaits a_queueHead a_queueLength a_queueType a_queueCore a_queueInfo a_queueWords a_msgType a_msgTo a_msgLine a_msgCore a_msgInfo a_msgAcks a_msgWords a_inWords := fun hs => by
      have hkk : (k l i = 8 ∨ k l i = 9) ∨ (k l i = 15 ∨ k l i = 16) := by
        by_cases g : k l i ≤ 10
        · rw [dm_st, if_pos g] at hs; omega
        · rw [dm_st, if_neg g] at hs; omega
      unfold wX_presentWord_156
      refine dm_w_pack2 hM80 (by omega) (by omega) (fun hex => br_f (by decide) (nm_r (nI_1 i) (next ?_))) (fun hno2 => br_t rfl ?_)
      · obtain ⟨s, hs, h1, h2, h3⟩ := hex
        obtain ⟨l', t', c', m1, m2, m3, m4, m5, m6, m7⟩ := dm_slot hX hs
        rw [h3, nI_eq (by omega) (by omega)] at m5
        rw [h1, show (11 : Int32) = nI 11 from rfl, nI_eq (by omega) (by omega)] at m6
        subst m5 m6
        have h8 := m7.2.2.2.2.2.2.2 rfl
        rw [h2, nI_eq (by omega) (by omega)] at h8
        subst h8
        rw [h11, dm_w3] at m4
        split at m4 <;> omega
      · have c1 : (nI (4 * i + fr l i) * 4 + nI w).toNatClampNeg = 4 * (4 * i + fr l i) + w := by rw [dm_ix, nI_clamp (by omega)]
        refine ⟨by rw [dm_ix]; exact vp_in_nI (by omega) (by omega), ?_⟩
        rw [c1]
        rcases hkk with h | h
        · rw [g7 (Or.inl (by rcases h with h | h <;> rw [h] <;> decide)) w hw]
          exact K
        · have hn1 : 1 ≤ n l 11 i := by rw [h11, dm_w3, if_pos (by omega)]; omega
          obtain ⟨s, hs, m5, m6, m7⟩ := dm_slot_ex hX hn1
          exact absurd ⟨m6, m7.2.2.2.2.2.2.2 rfl, m5⟩ (hno2 s hs)
    refine ⟨hv, ?_⟩
    rw [hcl, q3]
    refine pk_eq (dm_st (k l i)) 9 (fun h => go (Or.inr h)) (fun h9 => ⟨hv, pk_eq (dm_st (k l i)) 8 (fun h => go (Or.inl h)) (fun h8 => nm_r (nI_1 i) (next ?_))⟩)
    constructor
    · intro z; rw [z] at h8; exact h8 rfl
    · intro z; rw [z] at h9; exact h9 rfl
theorem dm_pw53 (hX : dm_X cc lc fc k gr ac fr d nd aw n nq R dI dA V oc ok oa pf cu val M a_opKind a_opAddress a_opOperand a_opResult a_opPerformed a_acc a_nextVictim a_frameLine a_frameState a_frameTarget a_frameAcks a_frameGranted a_frameWords a_memory a_current a_homeOwner a_homeSharers a_homeNextOwner a_homeNextSharers a_homeBusy a_homeAwaits a_queueHead a_queueLength a_queueType a_queueCore a_queueInfo a_queueWords a_msgType a_msgTo a_msgLine a_msgCore a_msgInfo a_msgAcks a_msgWords) (hL : dm_LL 8 k gr ac d nd aw n nq R dI dA cu) (hl : l < lc) (hw : w < 4) (hr : ∀ e, e < cc → dm_rd (k l e) = 0) (K : post (V l w)) : ∀ j i, i + j = M → (∀ x, x < i → ¬ (a_msgLine x = nI l ∧ (a_msgType x = 9 ∨ a_msgType x = 4))) → wX_presentWord_53 post (nI l) (nI w) f_msgGetS f_msgGetM f_msgPut f_msgDone f_msgCopyBack f_msgFwdS f_msgFwdM f_msgInv f_msgAck f_msgData f_msgGrant f_msgPutAck f_stFree f_stS f_stE f_stM f_stIS f_stIM f_stSM f_stSI f_stEI f_stMI f_stII (nI cc) (nI lc) (nI fc) (nI M) f_inType f_inTo f_inLine f_inCore f_inInfo f_inAcks a_opKind a_opAddress a_opOperand a_opResult a_opPerformed a_acc a_closedCount a_nextVictim a_frameLine a_frameState a_frameTarget a_frameAcks a_frameGranted a_frameWords a_memory a_current a_homeOwner a_homeSharers a_homeNextOwner a_homeNextSharers a_homeBusy a_homeAwaits a_queueHead a_queueLength a_queueType a_queueCore a_queueInfo a_queueWords a_msgType a_msgTo a_msgLine a_msgCore a_msgInfo a_msgAcks a_msgWords a_inWords (j + 1) (nI i) := by
  have hZ := hX.1
  have hM80 := dm_M80 hX hL
  intro j
  induction j with
  | zero =>
    intro i hi hno
    obtain rfl : i = M := by omega
    exact br_t (nI_le (Nat.le_refl _) (by omega)) ⟨cc + 1, dm_pw111 hX hL hl hw hr hno K cc 0 (by omega) (fun e he => absurd he (Nat.not_lt_zero e))⟩
  | succ j ih =>
    intro i hi hno
    have hv : vp_in (nI i) 128 := vp_in_nI (by omega) (by omega)
    have hcl : (nI i).toNatClampNeg = i := nI_clamp (by omega)
    have next : ¬ (a_msgLine i = nI l ∧ (a_msgType i = 9 ∨ a_msgType i = 4)) → wX_presentWord_53 post (nI l) (nI w) f_msgGetS f_msgGetM f_msgPut f_msgDone f_msgCopyBack f_msgFwdS f_msgFwdM f_msgInv f_msgAck f_msgData f_msgGrant f_msgPutAck f_stFree f_stS f_stE f_stM f_stIS f_stIM f_stSM f_stSI f_stEI f_stMI f_stII (nI cc) (nI lc) (nI fc) (nI M) f_inType f_inTo f_inLine f_inCore f_inInfo f_inAcks a_opKind a_opAddress a_opOperand a_opResult a_opPerformed a_acc a_closedCount a_nextVictim a_frameLine a_frameState a_frameTarget a_frameAcks a_frameGranted a_frameWords a_memory a_current a_homeOwner a_homeSharers a_homeNextOwner a_homeNextSharers a_homeBusy a_homeAwaits a_queueHead a_queueLength a_queueType a_queueCore a_queueInfo a_queueWords a_msgType a_msgTo a_msgLine a_msgCore a_msgInfo a_msgAcks a_msgWords a_inWords (j + 1) (nI (i + 1)) := fun h => ih (i + 1) (by omega) fun x hx => by
      by_cases g : x = i
      · subst g; exact h
      · exact hno x (by omega)
    have found : a_msgLine i = nI l → (a_msgType i = 9 ∨ a_msgType i = 4) → wX_presentWord_92 post (nI w) (nI i) f_msgGetS f_msgGetM f_msgPut f_msgDone f_msgCopyBack f_msgFwdS f_msgFwdM f_msgInv f_msgAck f_msgData f_msgGrant f_msgPutAck f_stFree f_stS f_stE f_stM f_stIS f_stIM f_stSM f_stSI f_stEI f_stMI f_stII (nI cc) (nI lc) (nI fc) (nI M) f_inType f_inTo f_inLine f_inCore f_inInfo f_inAcks a_opKind a_opAddress a_opOperand a_opResult a_opPerformed a_acc a_closedCount a_nextVictim a_frameLine a_frameState a_frameTarget a_frameAcks a_frameGranted a_frameWords a_memory a_current a_homeOwner a_homeSharers a_homeNextOwner a_homeNextSharers a_homeBusy a_homeAwaits a_queueHead a_queueLength a_queueType a_queueCore a_queueInfo a_queueWords a_msgType a_msgTo a_msgLine a_msgCore a_msgInfo a_msgAcks a_msgWords a_inWords := fun h1 h2 => by
      obtain ⟨l', t', c', m1, m2, m3, m4, m5, m6, m7⟩ := dm_slot hX (show i < M by omega)
      rw [h1, nI_eq (by omega) (by omega)] at m5
      subst m5
      have c1 : (nI i * 4 + nI w).toNatClampNeg = 4 * i + w := by rw [dm_ix, nI_clamp (by omega)]
      refine ⟨by rw [dm_ix]; exact vp_in_nI (by omega) (by omega), ?_⟩
      rw [c1]
      have e : a_msgWords (4 * i + w) = V l w := by
        rcases h2 with h2 | h2
        · rw [h2, show (9 : Int32) = nI 9 from rfl, nI_eq (by omega) (by omega)] at m6
          exact (m7.2.2.2.2.2.1 m6.symm).2.2.2 w hw
        · rw [h2, show (4 : Int32) = nI 4 from rfl, nI_eq (by omega) (by omega)] at m6
          exact m7.2.2.1 m6.symm w hw
      rw [e]; exact K
    refine br_f (nI_ge (by omega) (by omega)) ⟨hv, ?_⟩
    rw [hcl]
    exact br_c (fun h1 => ⟨hv, br_c (fun h2 => found h1 (Or.inl h2)) (fun h2 => ⟨hv, br_c (fun h3 => found h1 (Or.inr h3)) (fun h3 => nm_r (nI_1 i) (next (fun z => z.2.elim h2 h3)))⟩)⟩) (fun h1 => nm_r (nI_1 i) (next (fun z => h1 z.1)))
theorem dm_pw2 (hX : dm_X cc lc fc k gr ac fr d nd aw n nq R dI dA V oc ok oa pf cu val M a_opKind a_opAddress a_opOperand a_opResult a_opPerformed a_acc a_nextVictim a_frameLine a_frameState a_frameTarget a_frameAcks a_frameGranted a_frameWords a_memory a_current a_homeOwner a_homeSharers a_homeNextOwner a_homeNextSharers a_homeBusy a_homeAwaits a_queueHead a_queueLength a_queueType a_queueCore a_queueInfo a_queueWords a_msgType a_msgTo a_msgLine a_msgCore a_msgInfo a_msgAcks a_msgWords) (hL : dm_LL 8 k gr ac d nd aw n nq R dI dA cu) (hl : l < lc) (hw : w < 4) (K : post (V l w)) : ∀ j i, i + j = cc → (∀ e, e < i → dm_rd (k l e) = 0) → wX_presentWord_2 post (nI l) (nI w) f_msgGetS f_msgGetM f_msgPut f_msgDone f_msgCopyBack f_msgFwdS f_msgFwdM f_msgInv f_msgAck f_msgData f_msgGrant f_msgPutAck f_stFree f_stS f_stE f_stM f_stIS f_stIM f_stSM f_stSI f_stEI f_stMI f_stII (nI cc) (nI lc) (nI fc) (nI M) f_inType f_inTo f_inLine f_inCore f_inInfo f_inAcks a_opKind a_opAddress a_opOperand a_opResult a_opPerformed a_acc a_closedCount a_nextVictim a_frameLine a_frameState a_frameTarget a_frameAcks a_frameGranted a_frameWords a_memory a_current a_homeOwner a_homeSharers a_homeNextOwner a_homeNextSharers a_homeBusy a_homeAwaits a_queueHead a_queueLength a_queueType a_queueCore a_queueInfo a_queueWords a_msgType a_msgTo a_msgLine a_msgCore a_msgInfo a_msgAcks a_msgWords a_inWords (j + 1) (nI i) := by
  have hZ := hX.1
  intro j
  induction j with
  | zero =>
    intro i hi hno
    obtain rfl : i = cc := by omega
    exact br_t (nI_le (Nat.le_refl _) (by omega)) ⟨M + 1, dm_pw53 hX hL hl hw hno K M 0 (by omega) (fun e he => absurd he (Nat.not_lt_zero e))⟩
  | succ j ih =>
    intro i hi hno
    have next : dm_rd (k l i) = 0 → wX_presentWord_2 post (nI l) (nI w) f_msgGetS f_msgGetM f_msgPut f_msgDone f_msgCopyBack f_msgFwdS f_msgFwdM f_msgInv f_msgAck f_msgData f_msgGrant f_msgPutAck f_stFree f_stS f_stE f_stM f_stIS f_stIM f_stSM f_stSI f_stEI f_stMI f_stII (nI cc) (nI lc) (nI fc) (nI M) f_inType f_inTo f_inLine f_inCore f_inInfo f_inAcks a_opKind a_opAddress a_opOperand a_opResult a_opPerformed a_acc a_closedCount a_nextVictim a_frameLine a_frameState a_frameTarget a_frameAcks a_frameGranted a_frameWords a_memory a_current a_homeOwner a_homeSharers a_homeNextOwner a_homeNextSharers a_homeBusy a_homeAwaits a_queueHead a_queueLength a_queueType a_queueCore a_queueInfo a_queueWords a_msgType a_msgTo a_msgLine a_msgCore a_msgInfo a_msgAcks a_msgWords a_inWords (j + 1) (nI (i + 1)) := fun h => ih (i + 1) (by omega) fun e he => by
      by_cases g : e = i
      · subst g; exact h
      · exact hno e (by omega)
    refine br_f (nI_ge (by omega) (by omega)) (dm_find hX (by omega) hl (fun hk0 => br_f (nI_pos (by have := dm_stE hX hL hk0; omega)) ?_) (fun hk0 => br_t (by decide) (nm_r (nI_1 i) (next (by rw [hk0]; rfl)))))
    obtain ⟨q1, q2, q17, q3⟩ := dm_stE hX hL hk0
    obtain ⟨g1, g2, g3, g4, g5, g6, g7⟩ := dm_RF_at hX.2.1 hk0
    refine dm_w_all0 q1 q2 q3 (fun h => br_f (by decide) ?_) (fun h => br_t rfl (nm_r (nI_1 i) (next ?_)))
    · have c1 : (nI (4 * i + fr l i) * 4 + nI w).toNatClampNeg = 4 * (4 * i + fr l i) + w := by rw [dm_ix, nI_clamp (by omega)]
      refine ⟨by rw [dm_ix]; exact vp_in_nI (by omega) (by omega), ?_⟩
      rw [c1, g7 (Or.inl (dm_rd_ro ((dm_rd_st q17).mp h))) w hw]
      exact K
    · have h1 : ¬ dm_rd (k l i) = 1 := fun z => h ((dm_rd_st q17).mpr z)
      have := dm_rd1 (k l i); omega
end
/-- an open operation that writes the word -/
def dm_pk (cc : Nat) (oc ok oa : Nat → Nat) (a : Nat) : Prop := ∃ e, e < cc ∧ oc e = 1 ∧ oa e = a ∧ ok e ≠ 0
section
variable {cc lc fc M : Nat} {k gr fr d nd : Nat → Nat → Nat} {ac : Nat → Nat → Int} {aw R dI dA cu oc ok oa pf : Nat → Nat} {n nq : Nat → Nat → Nat → Nat} {V : Nat → Nat → Int32} {val : Nat → Int32} {f_msgGetS f_msgGetM f_msgPut f_msgDone f_msgCopyBack f_msgFwdS f_msgFwdM f_msgInv f_msgAck f_msgData f_msgGrant f_msgPutAck f_stFree f_stS f_stE f_stM f_stIS f_stIM f_stSM f_stSI f_stEI f_stMI f_stII f_coreCount f_lineCount f_frameCount f_msgCount f_inType f_inTo f_inLine f_inCore f_inInfo f_inAcks : Int32} {a_opKind a_opAddress a_opOperand a_opResult a_opPerformed a_acc a_closedCount a_nextVictim a_frameLine a_frameState a_frameTarget a_frameAcks a_frameGranted a_frameWords a_memory a_current a_homeOwner a_homeSharers a_homeNextOwner a_homeNextSharers a_homeBusy a_homeAwaits a_queueHead a_queueLength a_queueType a_queueCore a_queueInfo a_queueWords a_msgType a_msgTo a_msgLine a_msgCore a_msgInfo a_msgAcks a_msgWords a_inWords : Nat → Int32} {post : Int64 → Prop} {a : Nat}
theorem dm_w_pk14 (hX : dm_X cc lc fc k gr ac fr d nd aw n nq R dI dA V oc ok oa pf cu val M a_opKind a_opAddress a_opOperand a_opResult a_opPerformed a_acc a_nextVictim a_frameLine a_frameState a_frameTarget a_frameAcks a_frameGranted a_frameWords a_memory a_current a_homeOwner a_homeSharers a_homeNextOwner a_homeNextSharers a_homeBusy a_homeAwaits a_queueHead a_queueLength a_queueType a_queueCore a_queueInfo a_queueWords a_msgType a_msgTo a_msgLine a_msgCore a_msgInfo a_msgAcks a_msgWords) (hL : dm_LL 8 k gr ac d nd aw n nq R dI dA cu) (ha : a < 4 * lc) (K1 : dm_pk cc oc ok oa a → post 4294967296) (K0 : ¬ dm_pk cc oc ok oa a → post (V (a / 4) (a % 4)).toInt64) : ∀ j i, i + j = cc → (∀ e, e < i → oc e = 1 → oa e = a → ok e = 0) → wX_peek_14 post (nI a) f_msgGetS f_msgGetM f_msgPut f_msgDone f_msgCopyBack f_msgFwdS f_msgFwdM f_msgInv f_msgAck f_msgData f_msgGrant f_msgPutAck f_stFree f_stS f_stE f_stM f_stIS f_stIM f_stSM f_stSI f_stEI f_stMI f_stII (nI cc) (nI lc) (nI fc) (nI M) f_inType f_inTo f_inLine f_inCore f_inInfo f_inAcks a_opKind a_opAddress a_opOperand a_opResult a_opPerformed a_acc a_closedCount a_nextVictim a_frameLine a_frameState a_frameTarget a_frameAcks a_frameGranted a_frameWords a_memory a_current a_homeOwner a_homeSharers a_homeNextOwner a_homeNextSharers a_homeBusy a_homeAwaits a_queueHead a_queueLength a_queueType a_queueCore a_queueInfo a_queueWords a_msgType a_msgTo a_msgLine a_msgCore a_msgInfo a_msgAcks a_msgWords a_inWords (j + 1) (nI i) := by
  have hZ := hX.1
  intro j
  induction j with
  | zero =>
    intro i hi hno
    obtain rfl : i = cc := by omega
    refine br_t (nI_le (Nat.le_refl _) (by omega)) ⟨by decide, by decide, ?_⟩
    rw [show nI a - nI a / 4 * 4 = nI (a % 4) from by rw [show (4 : Int32) = nI 4 from rfl]; exact pk_rem (by omega) (by omega) (by omega), dm_div4 (by omega)]
    exact ⟨i + 1, dm_pw2 hX hL (by omega) (by omega) (K0 (fun ⟨e, h1, h2, h3, h4⟩ => h4 (hno e h1 h2 h3))) i 0 (by omega) (fun e he => absurd he (Nat.not_lt_zero e))⟩
  | succ j ih =>
    intro i hi hno
    have hv : vp_in (nI i) 4 := vp_in_nI (by omega) (by omega)
    have hcl : (nI i).toNatClampNeg = i := nI_clamp (by omega)
    obtain ⟨o1, o2, o3, o4, o5⟩ := hX.2.2.2.2.2.2.1 i (by omega)
    have next : (oc i = 1 → oa i = a → ok i = 0) → wX_peek_14 post (nI a) f_msgGetS f_msgGetM f_msgPut f_msgDone f_msgCopyBack f_msgFwdS f_msgFwdM f_msgInv f_msgAck f_msgData f_msgGrant f_msgPutAck f_stFree f_stS f_stE f_stM f_stIS f_stIM f_stSM f_stSI f_stEI f_stMI f_stII (nI cc) (nI lc) (nI fc) (nI M) f_inType f_inTo f_inLine f_inCore f_inInfo f_inAcks a_opKind a_opAddress a_opOperand a_opResult a_opPerformed a_acc a_closedCount a_nextVictim a_frameLine a_frameState a_frameTarget a_frameAcks a_frameGranted a_frameWords a_memory a_current a_homeOwner a_homeSharers a_homeNextOwner a_homeNextSharers a_homeBusy a_homeAwaits a_queueHead a_queueLength a_queueType a_queueCore a_queueInfo a_queueWords a_msgType a_msgTo a_msgLine a_msgCore a_msgInfo a_msgAcks a_msgWords a_inWords (j + 1) (nI (i + 1)) := fun h => ih (i + 1) (by omega) fun e he h1 h2 => by
      by_cases g : e = i
      · subst g; exact h h1 h2
      · exact hno e (by omega) h1 h2
    refine br_f (nI_ge (by omega) (by omega)) ⟨hv, ?_⟩
    rw [hcl]
    by_cases ho : oc i = 1
    · obtain ⟨p1, p2, p3, p4, p5⟩ := o4 ho
      rw [p4, p5]
      exact pk_le (ok i) 0 (fun h => nm_r (nI_1 i) (next (fun _ _ => by omega))) (fun h => ⟨hv, pk_eq (oa i) a (fun g => K1 ⟨i, by omega, ho, g, by omega⟩) (fun g => nm_r (nI_1 i) (next (fun _ z => absurd z g)))⟩)
    · rw [(o3 (by omega)).1]
      exact br_t (by decide) (nm_r (nI_1 i) (next (fun z => absurd z ho)))
end
section
variable {y_coreCount y_lineCount y_frameCount : Int32} {y_value y_isOpen y_kindOf y_addressOf y_operandOf y_acc y_finished y_current : Nat → Int32} {post : Int64 → Prop} {cc a : Nat} {oc ok oa : Nat → Nat}
theorem dm_y_pk14 (hcc : cc ≤ 4) (ha : a < 32) (hY : dm_RY oc ok oa y_isOpen y_kindOf y_addressOf) (hoc : ∀ e, e < 4 → oc e ≤ 1 ∧ (oc e = 1 → ok e ≤ 5 ∧ oa e < 32)) (K1 : dm_pk cc oc ok oa a → post 4294967296) (K0 : ¬ dm_pk cc oc ok oa a → post (y_value a).toInt64) : ∀ j i, i + j = cc → (∀ e, e < i → oc e = 1 → oa e = a → ok e = 0) → wY_peek_14 post (nI a) (nI cc) y_lineCount y_frameCount y_value y_isOpen y_kindOf y_addressOf y_operandOf y_acc y_finished y_current (j + 1) (nI i) := by
  intro j
  induction j with
  | zero =>
    intro i hi hno
    obtain rfl : i = cc := by omega
    refine br_t (nI_le (Nat.le_refl _) (by omega)) ⟨vp_in_nI ha (by omega), ?_⟩
    rw [nI_clamp (by omega)]
    exact K0 (fun ⟨e, h1, h2, h3, h4⟩ => h4 (hno e h1 h2 h3))
  | succ j ih =>
    intro i hi hno
    have hv : vp_in (nI i) 4 := vp_in_nI (by omega) (by omega)
    have hcl : (nI i).toNatClampNeg = i := nI_clamp (by omega)
    obtain ⟨y1, y2⟩ := hY i (by omega)
    obtain ⟨m1, m2⟩ := hoc i (by omega)
    have next : (oc i = 1 → oa i = a → ok i = 0) → wY_peek_14 post (nI a) (nI cc) y_lineCount y_frameCount y_value y_isOpen y_kindOf y_addressOf y_operandOf y_acc y_finished y_current (j + 1) (nI (i + 1)) := fun h => ih (i + 1) (by omega) fun e he h1 h2 => by
      by_cases g : e = i
      · subst g; exact h h1 h2
      · exact hno e (by omega) h1 h2
    refine br_f (nI_ge (by omega) (by omega)) ⟨hv, ?_⟩
    rw [hcl, y1]
    refine pk_eq (oc i) 0 (fun g => nm_r (nI_1 i) (next (fun z => by omega))) (fun g => ⟨hv, ?_⟩)
    have ho : oc i = 1 := by omega
    obtain ⟨q1, q2⟩ := m2 ho
    rw [(y2 ho).1, (y2 ho).2]
    exact pk_eq (oa i) a (fun g => ⟨hv, pk_eq (ok i) 0 (fun h => nm_r (nI_1 i) (next (fun _ _ => h))) (fun h => K1 ⟨i, by omega, ho, g, h⟩)⟩) (fun g => nm_r (nI_1 i) (next (fun _ z => absurd z g)))
end
theorem i_vc_peek {k : Nat} {u : SX} {v : SY} (I : i_Rel k u v) (hk : k + 5 ≤ 2563) (v1 : Int32) : wpX_peek (fun r => wpY_peek (fun r' => r' = r ∧ i_Rel (k + 5) u v) v v1) u v1 := by
  refine dm_Rel_el (P := fun u v => wpX_peek (fun r => wpY_peek (fun r' => r' = r ∧ i_Rel (k + 5) u v) v v1) u v1) ?_ I
  clear I
  generalize k + 5 = kk
  intro cc lc fc oc ok oa cu k gr ac fr d nd aw n nq R dI dA V pf M f_msgGetS f_msgGetM f_msgPut f_msgDone f_msgCopyBack f_msgFwdS f_msgFwdM f_msgInv f_msgAck f_msgData f_msgGrant f_msgPutAck f_stFree f_stS f_stE f_stM f_stIS f_stIM f_stSM f_stSI f_stEI f_stMI f_stII f_coreCount f_lineCount f_frameCount f_msgCount f_inType f_inTo f_inLine f_inCore f_inInfo f_inAcks a_opKind a_opAddress a_opOperand a_opResult a_opPerformed a_acc a_closedCount a_nextVictim a_frameLine a_frameState a_frameTarget a_frameAcks a_frameGranted a_frameWords a_memory a_current a_homeOwner a_homeSharers a_homeNextOwner a_homeNextSharers a_homeBusy a_homeAwaits a_queueHead a_queueLength a_queueType a_queueCore a_queueInfo a_queueWords a_msgType a_msgTo a_msgLine a_msgCore a_msgInfo a_msgAcks a_msgWords a_inWords y_value y_isOpen y_kindOf y_addressOf hY hX hL hp
  have hZ := hX.1
  have RR : i_Rel kk (f_msgGetS, f_msgGetM, f_msgPut, f_msgDone, f_msgCopyBack, f_msgFwdS, f_msgFwdM, f_msgInv, f_msgAck, f_msgData, f_msgGrant, f_msgPutAck, f_stFree, f_stS, f_stE, f_stM, f_stIS, f_stIM, f_stSM, f_stSI, f_stEI, f_stMI, f_stII, nI cc, nI lc, nI fc, nI M, f_inType, f_inTo, f_inLine, f_inCore, f_inInfo, f_inAcks, a_opKind, a_opAddress, a_opOperand, a_opResult, a_opPerformed, a_acc, a_closedCount, a_nextVictim, a_frameLine, a_frameState, a_frameTarget, a_frameAcks, a_frameGranted, a_frameWords, a_memory, a_current, a_homeOwner, a_homeSharers, a_homeNextOwner, a_homeNextSharers, a_homeBusy, a_homeAwaits, a_queueHead, a_queueLength, a_queueType, a_queueCore, a_queueInfo, a_queueWords, a_msgType, a_msgTo, a_msgLine, a_msgCore, a_msgInfo, a_msgAcks, a_msgWords, a_inWords) (nI cc, nI lc, nI fc, y_value, y_isOpen, y_kindOf, y_addressOf, a_opOperand, a_acc, a_closedCount, a_current) := dm_Rel_mk hY hX hL hp
  have hoc : ∀ e, e < 4 → oc e ≤ 1 ∧ (oc e = 1 → ok e ≤ 5 ∧ oa e < 32) := fun e he => by
    have q := hX.2.2.2.2.2.2.1 e he
    refine ⟨q.1, fun z => ?_⟩
    have := q.2.2.2.1 z
    omega
  unfold wpX_peek
  refine dm_w_isAddress hZ.2.2.2.1 (fun a ha e => br_f (by decide) ?_) (fun h => br_t rfl ?_)
  · subst e
    have Yw : ∀ (post : Int64 → Prop), (dm_pk cc oc ok oa a → post 4294967296) → (¬ dm_pk cc oc ok oa a → post (y_value a).toInt64) → wpY_peek post (nI cc, nI lc, nI fc, y_value, y_isOpen, y_kindOf, y_addressOf, a_opOperand, a_acc, a_closedCount, a_current) (nI a) := fun post K1 K0 => by
      unfold wpY_peek
      exact dm_y_a1 hZ.2.2.2.1 ha (br_f (by decide) ⟨cc + 1, dm_y_pk14 hZ.2.1 (by omega) hY hoc K1 K0 cc 0 (by omega) (fun e he => absurd he (Nat.not_lt_zero e))⟩)
    refine ⟨cc + 1, dm_w_pk14 hX hL ha (fun hb => Yw _ (fun _ => ⟨rfl, RR⟩) (fun z => absurd hb z)) (fun hb => Yw _ (fun z => absurd z hb) (fun _ => ⟨?_, RR⟩)) cc 0 (by omega) (fun e he => absurd he (Nat.not_lt_zero e))⟩
    rw [dm_V_val hX ha (fun e he h1 h2 => Classical.byContradiction fun z => hb ⟨e, ((hX.2.2.2.2.2.2.1 e he).2.2.2.1 h1).1, h1, h2, z⟩)]
  · unfold wpY_peek
    exact dm_y_a0 hZ.2.2.2.1 h (br_t rfl ⟨rfl, RR⟩)
end
