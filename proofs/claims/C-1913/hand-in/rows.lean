section
/-! rows pasted from kit/rows/PURE-ROWS (pk_) -/
theorem pk_us {f : Nat → Int32} {k : Nat} {x : Int32} : upd f k x k = x := if_pos rfl
theorem pk_un {f : Nat → Int32} {k j : Nat} {x : Int32} (h : j ≠ k) : upd f k x j = f j := if_neg h
theorem pk_sub {a b : Nat} (h : b ≤ a) : nI a - nI b = nI (a - b) := by
  obtain ⟨c, rfl⟩ : ∃ c, a = c + b := ⟨a - b, by omega⟩
  rw [← nI_add, Int32.add_sub_cancel, Nat.add_sub_cancel]
theorem pk_m1 (n : Nat) : nI (n + 1) + (-1) = nI n := by
  rw [← nI_1, Int32.add_assoc, show (1 : Int32) + (-1) = 0 from rfl, Int32.add_zero]
theorem pk_ix (x : Int32) {n : Nat} (hn : n < 2 ^ 31) : x < 0 ∨ nI n ≤ x ∨ ∃ j : Nat, j < n ∧ x = nI j := by
  by_cases h : x < 0
  · exact Or.inl h
  · obtain ⟨j, hj, rfl⟩ := nI_of h
    by_cases h2 : j < n
    · exact Or.inr (Or.inr ⟨j, h2, rfl⟩)
    · exact Or.inr (Or.inl (nI_le (by omega) hj))
theorem pk_vb (z : Int32) : vp_nar .byte z.toInt8.toInt32 = z.toInt8.toInt32 := by rw [vp_nar_byte]; simp
/-! own base rows: branches, the shifted numbers zb_I (0 is -1, p + 1 is p), reads -/
theorem zb_if {c d A B : Prop} (e : c ↔ d) (f : d → A) (g : ¬ d → B) : (c → A) ∧ (¬ c → B) := ⟨fun h => f (e.mp h), fun h => g (fun z => h (e.mpr z))⟩
def zb_I : Nat → Int32
  | 0 => -1
  | p + 1 => nI p
theorem zb_Is (p : Nat) : zb_I (p + 1) = nI p := rfl
theorem zb_I0 : zb_I 0 = -1 := rfl
theorem zb_t {s : Nat} (h : s < 2 ^ 31) : (zb_I s).toInt = (s : Int) - 1 := by
  cases s with
  | zero => exact (by decide : (-1 : Int32).toInt = -1)
  | succ p =>
    show (nI p).toInt = _
    rw [nI_toInt (by omega)]
    omega
theorem zb_0t : (0 : Int32).toInt = 0 := by decide
theorem zb_mt : (-1 : Int32).toInt = -1 := by decide
theorem zb_leIN {s n : Nat} (hs : s < 2 ^ 31) (hn : n < 2 ^ 31) : zb_I s ≤ nI n ↔ s ≤ n + 1 := by
  rw [Int32.le_iff_toInt_le, zb_t hs, nI_toInt hn]; omega
theorem zb_leNI {s n : Nat} (hn : n < 2 ^ 31) (hs : s < 2 ^ 31) : nI n ≤ zb_I s ↔ n < s := by
  rw [Int32.le_iff_toInt_le, zb_t hs, nI_toInt hn]; omega
theorem zb_leII {s t : Nat} (hs : s < 2 ^ 31) (ht : t < 2 ^ 31) : zb_I s ≤ zb_I t ↔ s ≤ t := by
  rw [Int32.le_iff_toInt_le, zb_t hs, zb_t ht]; omega
theorem zb_ltI0 {s : Nat} (hs : s < 2 ^ 31) : zb_I s < 0 ↔ s = 0 := by
  rw [Int32.lt_iff_toInt_lt, zb_t hs, zb_0t]; omega
theorem zb_le0I {s : Nat} (hs : s < 2 ^ 31) : 0 ≤ zb_I s ↔ 0 < s := by
  rw [Int32.le_iff_toInt_le, zb_t hs, zb_0t]; omega
theorem zb_eqIN {s n : Nat} (hs : s < 2 ^ 31) (hn : n < 2 ^ 31) : zb_I s = nI n ↔ s = n + 1 := by
  rw [← Int32.toInt_inj, zb_t hs, nI_toInt hn]; omega
theorem zb_eqII {s t : Nat} (hs : s < 2 ^ 31) (ht : t < 2 ^ 31) : zb_I s = zb_I t ↔ s = t := by
  rw [← Int32.toInt_inj, zb_t hs, zb_t ht]; omega
theorem zb_eqIm {s : Nat} (hs : s < 2 ^ 31) : zb_I s = -1 ↔ s = 0 := by
  rw [← Int32.toInt_inj, zb_t hs, zb_mt]; omega
theorem zb_succ (s : Nat) : zb_I s + 1 = nI s := by
  cases s with
  | zero => rfl
  | succ p => exact nI_1 p
theorem zb_predm (s : Nat) : nI s + (-1) = zb_I s := by
  cases s with
  | zero => rfl
  | succ p => exact pk_m1 p
theorem zb_pred (s : Nat) : nI s - 1 = zb_I s := by
  cases s with
  | zero => rfl
  | succ p => exact nI_pred p
theorem zb_i8 {n : Nat} (h : n < 128) : (nI n).toInt8.toInt32 = nI n :=
  lg_i2b_small (by rw [nI_toInt (by omega)]; omega) (by rw [nI_toInt (by omega)]; omega)
theorem zb_I8 {n : Nat} (h : n < 128) : (zb_I n).toInt8.toInt32 = zb_I n :=
  lg_i2b_small (by rw [zb_t (by omega)]; omega) (by rw [zb_t (by omega)]; omega)
theorem zb_vn {n : Nat} (h : n < 128) : vp_nar .byte (nI n) = nI n := by rw [vp_nar_byte, zb_i8 h]
theorem zb_vI {n : Nat} (h : n < 128) : vp_nar .byte (zb_I n) = zb_I n := by rw [vp_nar_byte, zb_I8 h]
theorem zb_vn8 {n : Nat} (h : n < 128) : vp_nar .byte (nI n).toInt8.toInt32 = nI n := by rw [zb_i8 h, zb_vn h]
theorem zb_vI8 {n : Nat} (h : n < 128) : vp_nar .byte (zb_I n).toInt8.toInt32 = zb_I n := by rw [zb_I8 h, zb_vI h]
theorem zb_in {j : Nat} (h : j < 28) : vp_in (nI j) 28 := vp_in_nI h (by decide)
theorem zb_in30 {j : Nat} (h : j < 30) : vp_in (nI j) 30 := vp_in_nI h (by decide)
theorem zb_c {j : Nat} (h : j < 28) : (nI j).toNatClampNeg = j := nI_clamp (by omega)
theorem zb_c30 {j : Nat} (h : j < 30) : (nI j).toNatClampNeg = j := nI_clamp (by omega)
/-- an array's cells are these numbers -/
def zb_At (a : Nat → Int32) (f : Nat → Nat) : Prop := ∀ i, i < 28 → a i = nI (f i)
theorem zb_rd {a : Nat → Int32} {f : Nat → Nat} {j : Nat} (h : zb_At a f) (hj : j < 28) : a (nI j).toNatClampNeg = nI (f j) := by
  rw [zb_c hj, h j hj]
theorem zb_rdI {a : Nat → Int32} {s j : Nat} (hj : j < 28) (h : a j = zb_I s) : a (nI j).toNatClampNeg = zb_I s := by
  rw [zb_c hj, h]
theorem zb_upd {a : Nat → Int32} {f g : Nat → Nat} {j v : Nat} (h : zb_At a f) (hj : j < 28) (hg : ∀ i, i < 28 → g i = if i = j then v else f i) : zb_At (upd a (nI j).toNatClampNeg (nI v)) g := by
  intro i hi
  rw [zb_c hj, hg i hi]
  by_cases e : i = j
  · subst e; rw [pk_us, if_pos rfl]
  · rw [pk_un e, if_neg e]; exact h i hi
/-- a branch on a cell of such an array against a number -/
theorem zb_k {a : Nat → Int32} {f : Nat → Nat} {j : Nat} (c : Nat) (h : zb_At a f) (hj : j < 28) (hf : f j < 128) (hc : c < 128) : a (nI j).toNatClampNeg = nI c ↔ f j = c := by
  rw [zb_rd h hj, nI_eq (by omega) (by omega)]
/-! bit sets -/
noncomputable def zb_B (P : Prop) (x y : Int32) : Int32 := @ite Int32 P (Classical.propDecidable P) x y
theorem zb_Bt {P : Prop} {x y : Int32} (h : P) : zb_B P x y = x := by unfold zb_B; rw [if_pos h]
theorem zb_Bf {P : Prop} {x y : Int32} (h : ¬ P) : zb_B P x y = y := by unfold zb_B; rw [if_neg h]
noncomputable def zb_S (P : Nat → Prop) : Nat → Int32
  | 0 => 0
  | i + 1 => zb_B (P i) (zb_S P i ||| ((1 : Int32) <<< (nI i &&& 31))) (zb_S P i)
theorem zb_St {P : Nat → Prop} {i : Nat} (h : P i) : zb_S P (i + 1) = zb_S P i ||| ((1 : Int32) <<< (nI i &&& 31)) := zb_Bt h
theorem zb_Sf {P : Nat → Prop} {i : Nat} (h : ¬ P i) : zb_S P (i + 1) = zb_S P i := zb_Bf h
theorem zb_Sf0 {P : Nat → Prop} {i : Nat} (h : ¬ P i) : zb_S P i ||| 0 = zb_S P (i + 1) := by rw [zb_Sf h]; exact Int32.or_zero
theorem zb_bit : ∀ u, u < 32 → ¬ ((1 : Int32) <<< (nI u &&& 31)) = 0 := by decide +kernel
theorem zb_S0 {P : Nat → Prop} : ∀ n, n ≤ 32 → (zb_S P n = 0 ↔ ∀ i, i < n → ¬ P i)
  | 0, _ => ⟨fun _ i h => absurd h (Nat.not_lt_zero i), fun _ => rfl⟩
  | n + 1, hn => by
    have ih := zb_S0 (P := P) n (by omega)
    rcases Classical.em (P n) with h | h
    · rw [zb_St h]
      refine ⟨fun e => absurd (Int32.or_eq_zero_iff.mp e).2 (zb_bit n (by omega)), fun e => absurd h (e n (by omega))⟩
    · rw [zb_Sf h, ih]
      refine ⟨fun e i hi => ?_, fun e i hi => e i (by omega)⟩
      rcases Nat.lt_or_ge i n with z | z
      · exact e i z
      · have : i = n := by omega
        subst this; exact h
theorem zb_Sc {P Q : Nat → Prop} : ∀ n, (∀ i, i < n → (P i ↔ Q i)) → zb_S P n = zb_S Q n
  | 0, _ => rfl
  | n + 1, h => by
    have ih := zb_Sc (P := P) (Q := Q) n (fun i hi => h i (by omega))
    rcases Classical.em (P n) with z | z
    · rw [zb_St z, zb_St ((h n (by omega)).mp z), ih]
    · rw [zb_Sf z, zb_Sf (fun w => z ((h n (by omega)).mpr w)), ih]
/-! the last place below n with P, plus one; 0 if none -/
noncomputable def zl_a (P : Nat → Prop) : Nat → Nat
  | 0 => 0
  | p + 1 => @ite Nat (P p) (Classical.propDecidable _) (p + 1) (zl_a P p)
theorem zl_t {P : Nat → Prop} {p : Nat} (h : P p) : zl_a P (p + 1) = p + 1 := by rw [zl_a, if_pos h]
theorem zl_f {P : Nat → Prop} {p : Nat} (h : ¬ P p) : zl_a P (p + 1) = zl_a P p := by rw [zl_a, if_neg h]
theorem zl_le {P : Nat → Prop} : ∀ n, zl_a P n ≤ n
  | 0 => Nat.le_refl _
  | n + 1 => by
    have ih := zl_le (P := P) n
    rcases Classical.em (P n) with h | h
    · rw [zl_t h]; omega
    · rw [zl_f h]; omega
theorem zl_P {P : Nat → Prop} : ∀ {n p : Nat}, zl_a P n = p + 1 → P p
  | 0, p, h => by simp [zl_a] at h
  | n + 1, p, h => by
    rcases Classical.em (P n) with z | z
    · rw [zl_t z] at h
      have : n = p := by omega
      subst this; exact z
    · rw [zl_f z] at h; exact zl_P h
theorem zl_n {P : Nat → Prop} : ∀ {n q : Nat}, zl_a P n ≤ q → q < n → ¬ P q
  | 0, q, _, h => absurd h (Nat.not_lt_zero q)
  | n + 1, q, h, hq => by
    rcases Classical.em (P n) with z | z
    · rw [zl_t z] at h; omega
    · rw [zl_f z] at h
      rcases Nat.lt_or_ge q n with y | y
      · exact zl_n h y
      · have : q = n := by omega
        subst this; exact z
theorem zl_ge {P : Nat → Prop} {n p : Nat} (hp : P p) (h : p < n) : p < zl_a P n := by
  rcases Nat.lt_or_ge p (zl_a P n) with z | z
  · exact z
  · exact absurd hp (zl_n z h)
theorem zl_eq {P : Nat → Prop} {n s : Nat} (h1 : s ≤ n) (h2 : ∀ p, s = p + 1 → P p) (h3 : ∀ q, s ≤ q → q < n → ¬ P q) : zl_a P n = s := by
  have a := zl_le (P := P) n
  rcases Nat.lt_trichotomy (zl_a P n) s with z | z | z
  · obtain ⟨p, rfl⟩ : ∃ p, s = p + 1 := ⟨s - 1, by omega⟩
    exact absurd (h2 p rfl) (zl_n (n := n) (by omega) (by omega))
  · exact z
  · obtain ⟨p, e⟩ : ∃ p, zl_a P n = p + 1 := ⟨zl_a P n - 1, by omega⟩
    exact absurd (zl_P e) (h3 p (by omega) (by omega))
/-- another predicate with the same last place -/
theorem zl_c {P Q : Nat → Prop} {n : Nat} (h2 : ∀ p, zl_a P n = p + 1 → Q p) (h3 : ∀ q, zl_a P n ≤ q → q < n → Q q → P q) : zl_a Q n = zl_a P n :=
  zl_eq (zl_le n) h2 (fun q a b c => zl_n a b (h3 q a b c))
theorem zl_e {P Q : Nat → Prop} {n : Nat} (h : ∀ p, p < n → (P p ↔ Q p)) : zl_a Q n = zl_a P n :=
  zl_c (fun p e => (h p (by have := zl_le (P := P) n; omega)).mp (zl_P e)) (fun q _ hq => (h q hq).mpr)
/-- a longer stretch in which nothing is added -/
theorem zl_x {P : Nat → Prop} {m n : Nat} (hm : m ≤ n) (h : ∀ q, m ≤ q → q < n → ¬ P q) : zl_a P n = zl_a P m := by
  refine zl_eq (Nat.le_trans (zl_le m) hm) (fun p e => zl_P e) (fun q a b => ?_)
  rcases Nat.lt_or_ge q m with z | z
  · exact zl_n a z
  · exact h q z b
end
section
/-! programs as kinds K and names N: depth, visibility, blocks, bindings -/
def zp_dp (K : Nat → Nat) : Nat → Nat
  | 0 => 0
  | k + 1 => if K k = 0 then zp_dp K k + 1 else if K k = 1 then zp_dp K k - 1 else zp_dp K k
def zp_Bal (K : Nat → Nat) (n : Nat) : Prop := ∀ k, k < n → K k = 1 → 0 < zp_dp K k
/-- the block in which d lies directly is not closed ahead of u -/
def zp_In (K : Nat → Nat) (d u : Nat) : Prop := ∀ p, d ≤ p → p ≤ u → zp_dp K d ≤ zp_dp K p
/-- the OPEN of the innermost block around k, plus one -/
noncomputable def zp_bk (K : Nat → Nat) (k : Nat) : Nat := zl_a (fun p => zp_dp K p < zp_dp K k) k
def zp_V (K N : Nat → Nat) (u n d : Nat) : Prop := K d = 2 ∧ N d = n ∧ zp_In K d u
/-- what a use of n at u is bound to, plus one -/
noncomputable def zp_bd (K N : Nat → Nat) (u n : Nat) : Nat := zl_a (zp_V K N u n) u
noncomputable def zp_B (K N : Nat → Nat) (u : Nat) : Nat := if K u = 3 then zp_bd K N u (N u) else 0
/-- where the block of the OPEN b ends -/
def zp_En (K : Nat → Nat) (sz b e : Nat) : Prop := b < e ∧ e ≤ sz ∧ (∀ p, b < p → p ≤ e → zp_dp K b < zp_dp K p) ∧ (e < sz → zp_dp K (e + 1) ≤ zp_dp K b)
section
variable {K N : Nat → Nat} {k u d e b n sz D t p : Nat}
theorem zp_00 : zp_dp K 0 = 0 := rfl
theorem zp_d0 (h : K k = 0) : zp_dp K (k + 1) = zp_dp K k + 1 := by rw [zp_dp, if_pos h]
theorem zp_d1 (h : K k = 1) : zp_dp K (k + 1) = zp_dp K k - 1 := by rw [zp_dp, if_neg (by omega), if_pos h]
theorem zp_d2 (h : K k ≠ 0) (h1 : K k ≠ 1) : zp_dp K (k + 1) = zp_dp K k := by rw [zp_dp, if_neg h, if_neg h1]
theorem zp_le : ∀ k, zp_dp K k ≤ k
  | 0 => Nat.le_refl _
  | k + 1 => by
    have ih := zp_le k
    rcases Classical.em (K k = 0) with h | h
    · rw [zp_d0 h]; omega
    · rcases Classical.em (K k = 1) with h1 | h1
      · rw [zp_d1 h1]; omega
      · rw [zp_d2 h h1]; omega
theorem zp_up (h : zp_dp K k < zp_dp K (k + 1)) : K k = 0 ∧ zp_dp K (k + 1) = zp_dp K k + 1 := by
  rcases Classical.em (K k = 0) with z | z
  · exact ⟨z, zp_d0 z⟩
  · rcases Classical.em (K k = 1) with y | y
    · rw [zp_d1 y] at h; omega
    · rw [zp_d2 z y] at h; omega
theorem zp_dc {K1 : Nat → Nat} : ∀ k, (∀ i, i < k → K1 i = K i) → zp_dp K1 k = zp_dp K k
  | 0, _ => rfl
  | k + 1, h => by
    have ih := zp_dc (K1 := K1) k (fun i hi => h i (by omega))
    have e := h k (by omega)
    simp only [zp_dp, e, ih]
/-- the block at level D around u -/
theorem zp_lev (hD : D ≤ zp_dp K u) (ht : zl_a (fun p => zp_dp K p < D) u = b + 1) : b < u ∧ K b = 0 ∧ zp_dp K b + 1 = D ∧ ∀ q, b < q → q ≤ u → D ≤ zp_dp K q := by
  have l := zl_le (P := fun p => zp_dp K p < D) u
  have hP : zp_dp K b < D := zl_P (P := fun p => zp_dp K p < D) ht
  have hq : ∀ q, b < q → q ≤ u → D ≤ zp_dp K q := by
    intro q h1 h2
    rcases Nat.lt_or_ge q u with z | z
    · have : ¬ zp_dp K q < D := zl_n (P := fun p => zp_dp K p < D) (n := u) (by omega) z
      omega
    · have : q = u := by omega
      subst this; exact hD
  have h1 := hq (b + 1) (by omega) (by omega)
  have h2 := zp_up (K := K) (k := b) (by omega)
  exact ⟨by omega, h2.1, by omega, hq⟩
theorem zp_lev0 (hD : D ≤ zp_dp K u) (ht : zl_a (fun p => zp_dp K p < D) u = 0) : D = 0 := by
  rcases Nat.eq_zero_or_pos u with z | z
  · subst z; rw [zp_00] at hD; omega
  · have : ¬ zp_dp K 0 < D := zl_n (P := fun p => zp_dp K p < D) (n := u) (by omega) z
    rw [zp_00] at this; omega
theorem zp_bks (h : zp_bk K k = b + 1) : b < k ∧ K b = 0 ∧ zp_dp K b + 1 = zp_dp K k ∧ ∀ q, b < q → q ≤ k → zp_dp K k ≤ zp_dp K q := zp_lev (Nat.le_refl _) h
theorem zp_bk0 (h : zp_bk K k = 0) : zp_dp K k = 0 := zp_lev0 (Nat.le_refl _) h
theorem zp_bkz (h : zp_dp K k = 0) : zp_bk K k = 0 := zl_eq (Nat.zero_le _) (fun p e => by omega) (fun q _ _ => by omega)
theorem zp_bkl : zp_bk K k ≤ k := zl_le k
theorem zp_bke (h1 : b < k) (h2 : zp_dp K b < zp_dp K k) (h3 : ∀ q, b < q → q < k → zp_dp K k ≤ zp_dp K q) : zp_bk K k = b + 1 :=
  zl_eq h1 (fun p e => by have : b = p := by omega
                          subst this; exact h2) (fun q a c => by have := h3 q (by omega) c; omega)
theorem zp_in0 (h : zp_bk K d = 0) : zp_In K d u := fun p _ _ => by rw [zp_bk0 h]; omega
theorem zp_inb (h : zp_bk K d = b + 1) (hE : zp_En K sz b e) (hd : d ≤ u) (hu : u < sz) : u ≤ e ↔ zp_In K d u := by
  obtain ⟨b1, b2, b3, b4⟩ := zp_bks h
  obtain ⟨e1, e2, e3, e4⟩ := hE
  constructor
  · intro hu p h1 h2
    have := e3 p (by omega) (by omega)
    omega
  · intro hI
    rcases Nat.lt_or_ge e u with z | z
    · have a := e4 (by omega)
      rcases Nat.lt_or_ge e d with y | y
      · have := b4 (e + 1) (by omega) (by omega)
        omega
      · have := hI (e + 1) (by omega) (by omega)
        omega
    · exact z
theorem zp_Bu (h : K u = 3) : zp_B K N u = zp_bd K N u (N u) := by unfold zp_B; rw [if_pos h]
theorem zp_Bz (h : K u ≠ 3) : zp_B K N u = 0 := by unfold zp_B; rw [if_neg h]
theorem zp_bdl : zp_bd K N u n ≤ u := zl_le u
theorem zp_bdP (h : zp_bd K N u n = d + 1) : d < u ∧ zp_V K N u n d := ⟨by have := zp_bdl (K := K) (N := N) (u := u) (n := n); omega, zl_P h⟩
theorem zp_bdn (h : zp_bd K N u n ≤ d) (hd : d < u) : ¬ zp_V K N u n d := zl_n h hd
theorem zp_bdg (h : zp_V K N u n d) (hd : d < u) : d < zp_bd K N u n := zl_ge h hd
theorem zp_Bl : zp_B K N u ≤ u := by
  rcases Classical.em (K u = 3) with h | h
  · rw [zp_Bu h]; exact zp_bdl
  · rw [zp_Bz h]; omega
theorem zp_Bs (h : zp_B K N u = d + 1) : K u = 3 ∧ d < u ∧ zp_V K N u (N u) d := by
  rcases Classical.em (K u = 3) with z | z
  · rw [zp_Bu z] at h; exact ⟨z, zp_bdP h⟩
  · rw [zp_Bz z] at h; omega
/-! what the reference's walk outwards finds -/
def zp_Q (K N : Nat → Nat) (n t p : Nat) : Prop := t ≤ p ∧ K p = 2 ∧ N p = n ∧ zp_bk K p = t
theorem zp_Qi (hD : D ≤ zp_dp K u) (ht : zl_a (fun p => zp_dp K p < D) u = t) (hp : p < u) : zp_Q K N n t p ↔ zp_V K N u n p ∧ zp_dp K p = D := by
  constructor
  · rintro ⟨h1, h2, h3, h4⟩
    have e : zp_dp K p = D := by
      cases t with
      | zero => have a := zp_lev0 hD ht; have c := zp_bk0 h4; omega
      | succ b => have a := zp_lev hD ht; have c := zp_bks h4; omega
    refine ⟨⟨h2, h3, fun q a c => ?_⟩, e⟩
    rw [e]
    cases t with
    | zero => have := zp_lev0 hD ht; omega
    | succ b => exact (zp_lev hD ht).2.2.2 q (by omega) c
  · rintro ⟨⟨h2, h3, h4⟩, e⟩
    have tp : t ≤ p := by
      cases t with
      | zero => omega
      | succ b =>
        obtain ⟨a1, a2, a3, a4⟩ := zp_lev hD ht
        rcases Nat.lt_or_ge b p with z | z
        · exact z
        · have := h4 b z (by omega); omega
    refine ⟨tp, h2, h3, ?_⟩
    unfold zp_bk
    rw [e, ← ht]
    exact (zl_x (Nat.le_of_lt hp) (fun q a c => by have := h4 q a (by omega); omega)).symm
theorem zp_fnd (hD : D ≤ zp_dp K u) (ht : zl_a (fun p => zp_dp K p < D) u = t) (hv : ∀ d, d < u → zp_V K N u n d → zp_dp K d ≤ D) (h : zl_a (zp_Q K N n t) u = p + 1) : zp_bd K N u n = p + 1 := by
  have l := zl_le (P := zp_Q K N n t) u
  have hp := (zp_Qi hD ht (by omega)).mp (zl_P h)
  refine zl_eq (by omega) (fun q e => ?_) (fun q a c v => ?_)
  · have : p = q := by omega
    subst this; exact hp.1
  · have h1 := hv q c v
    have h2 := hp.1.2.2 q (by omega) (by omega)
    exact zl_n (P := zp_Q K N n t) (n := u) (by omega) c ((zp_Qi hD ht c).mpr ⟨v, by omega⟩)
theorem zp_non (hD : D ≤ zp_dp K u) (ht : zl_a (fun p => zp_dp K p < D) u = t) (hv : ∀ d, d < u → zp_V K N u n d → zp_dp K d ≤ D) (h : zl_a (zp_Q K N n t) u = 0) : ∀ d, d < u → zp_V K N u n d → zp_dp K d < D := by
  intro d hd v
  have h1 := hv d hd v
  have h2 : ¬ zp_Q K N n t d := zl_n (n := u) (by omega) hd
  rcases Nat.lt_or_ge (zp_dp K d) D with z | z
  · exact z
  · exact absurd ((zp_Qi hD ht hd).mpr ⟨v, by omega⟩) h2
theorem zp_nxt (hD : D ≤ zp_dp K u) (ht : zl_a (fun p => zp_dp K p < D) u = b + 1) : zl_a (fun p => zp_dp K p < D - 1) u = zp_bk K b := by
  obtain ⟨a1, a2, a3, a4⟩ := zp_lev hD ht
  have e : D - 1 = zp_dp K b := by omega
  rw [e]
  refine zl_x (Nat.le_of_lt a1) (fun q h1 h2 => ?_)
  rcases Nat.lt_or_ge b q with z | z
  · have := a4 q z (by omega); omega
  · have : b = q := by omega
    subst this; omega
end
/-- a program that the desk can hold -/
def zp_Ok (K N : Nat → Nat) (sz : Nat) : Prop := sz ≤ 28 ∧ (∀ i, i < 28 → K i ≤ 3) ∧ (∀ i, i < 28 → N i ≤ 7) ∧ zp_Bal K sz
/-- every use of the copy is bound as it was -/
def zp_om (O : Nat → Nat) : Nat → Nat
  | 0 => 0
  | p + 1 => O p + 1
def zp_Lg (K N O W : Nat → Nat) (sz : Nat) : Prop := ∀ q, q < sz → K q = 3 → W (O q) = zp_om O (zp_bd K N q (N q))
end
section
/-! the law of renaming -/
noncomputable def zn_N (K N : Nat → Nat) (sz k m i : Nat) : Nat := if i < sz ∧ (i = k ∨ zp_B K N i = k + 1) then m else N i
def zn_ok (K N : Nat → Nat) (k m u : Nat) : Prop := (zp_B K N u = k + 1 → zp_bd K N u m ≤ k) ∧ (zp_B K N u ≠ k + 1 → K u = 3 → N u = m → zp_In K k u → k + 1 < zp_B K N u)
theorem zp_omi : ∀ s, zp_om (fun i => i) s = s
  | 0 => rfl
  | _ + 1 => rfl
section
variable {K N : Nat → Nat} {sz k m u d n : Nat}
theorem zn_Nt (h : d < sz) (h1 : d = k ∨ zp_B K N d = k + 1) : zn_N K N sz k m d = m := by unfold zn_N; rw [if_pos ⟨h, h1⟩]
theorem zn_Nf (h1 : d ≠ k) (h2 : zp_B K N d ≠ k + 1) : zn_N K N sz k m d = N d := by unfold zn_N; rw [if_neg (fun z => z.2.elim h1 h2)]
theorem zn_V (hk : k < sz) (hK : K k = 2) (hu : u ≤ sz) (hd : d < u) : zp_V K (zn_N K N sz k m) u n d ↔ K d = 2 ∧ (d = k ∧ m = n ∨ d ≠ k ∧ N d = n) ∧ zp_In K d u := by
  constructor
  · rintro ⟨h1, h2, h3⟩
    refine ⟨h1, ?_, h3⟩
    rcases Classical.em (d = k) with e | e
    · rw [zn_Nt (by omega) (Or.inl e)] at h2; exact Or.inl ⟨e, h2⟩
    · rw [zn_Nf e (by rw [zp_Bz (by omega)]; omega)] at h2; exact Or.inr ⟨e, h2⟩
  · rintro ⟨h1, h2, h3⟩
    refine ⟨h1, ?_, h3⟩
    rcases h2 with ⟨e, h2⟩ | ⟨e, h2⟩
    · rw [zn_Nt (by omega) (Or.inl e)]; exact h2
    · rw [zn_Nf e (by rw [zp_Bz (by omega)]; omega)]; exact h2
theorem zn_u (hk : k < sz) (hK : K k = 2) (hm : m ≠ N k) (hu : u < sz) (h3 : K u = 3) : zp_B K N u = zp_bd K (zn_N K N sz k m) u (zn_N K N sz k m u) ↔ (k < u → zn_ok K N k m u) := by
  have hus : u ≤ sz := Nat.le_of_lt hu
  have uk : u ≠ k := fun e => by rw [e] at h3; omega
  rcases Classical.em (zp_B K N u = k + 1) with hB | hB
  · obtain ⟨_, ku, v⟩ := zp_Bs hB
    rw [zn_Nt hu (Or.inr hB), hB]
    constructor
    · intro h _
      refine ⟨fun _ => ?_, fun z => absurd hB z⟩
      rcases Nat.lt_or_ge k (zp_bd K N u m) with z | z
      · obtain ⟨o, eo⟩ : ∃ o, zp_bd K N u m = o + 1 := ⟨zp_bd K N u m - 1, by omega⟩
        obtain ⟨ou, vo⟩ := zp_bdP eo
        have ok : o ≠ k := fun e => hm (by rw [← vo.2.1, e])
        have := zp_bdg ((zn_V (N := N) (m := m) (n := m) hk hK hus ou).mpr ⟨vo.1, Or.inr ⟨ok, vo.2.1⟩, vo.2.2⟩) ou
        omega
      · exact z
    · intro h
      have h1 := (h ku).1 hB
      refine (zl_eq ku (fun p e => ?_) (fun q a c v1 => ?_)).symm
      · have : k = p := by omega
        subst this
        exact (zn_V hk hK hus ku).mpr ⟨hK, Or.inl ⟨rfl, rfl⟩, v.2.2⟩
      · obtain ⟨w1, w2, w3⟩ := (zn_V hk hK hus c).mp v1
        rcases w2 with ⟨e, _⟩ | ⟨_, w2⟩
        · omega
        · have := zp_bdg (N := N) ⟨w1, w2, w3⟩ c
          omega
  · rw [zn_Nf uk hB]
    rcases Classical.em (N u = m) with hn | hn
    · rcases Classical.em (k < u ∧ zp_In K k u) with hI | hI
      · constructor
        · intro h _
          refine ⟨fun z => absurd z hB, fun _ _ _ _ => ?_⟩
          have := zp_bdg ((zn_V (N := N) (m := m) (n := N u) hk hK hus hI.1).mpr ⟨hK, Or.inl ⟨rfl, hn.symm⟩, hI.2⟩) hI.1
          omega
        · intro h
          have h1 := (h hI.1).2 hB h3 hn hI.2
          rw [zp_Bu h3] at h1 ⊢
          refine (zl_c (fun p e => ?_) (fun q a c v1 => ?_)).symm
          · have e' : zp_bd K N u (N u) = p + 1 := e
            obtain ⟨pu, v⟩ := zp_bdP e'
            exact (zn_V hk hK hus pu).mpr ⟨v.1, Or.inr ⟨by omega, v.2.1⟩, v.2.2⟩
          · have a' : zp_bd K N u (N u) ≤ q := a
            obtain ⟨w1, w2, w3⟩ := (zn_V hk hK hus c).mp v1
            rcases w2 with ⟨e, _⟩ | ⟨_, w2⟩
            · omega
            · exact ⟨w1, w2, w3⟩
      · constructor
        · intro _ hku
          exact ⟨fun z => absurd z hB, fun _ _ _ hI2 => absurd ⟨hku, hI2⟩ hI⟩
        · intro _
          rw [zp_Bu h3]
          refine (zl_e (fun p hp => ?_)).symm
          rw [zn_V hk hK hus hp]
          constructor
          · rintro ⟨w1, w2, w3⟩
            refine ⟨w1, Or.inr ⟨fun e => ?_, w2⟩, w3⟩
            subst e
            exact hI ⟨hp, w3⟩
          · rintro ⟨w1, w2, w3⟩
            rcases w2 with ⟨e, _⟩ | ⟨_, w2⟩
            · subst e; exact absurd ⟨hp, w3⟩ hI
            · exact ⟨w1, w2, w3⟩
    · constructor
      · intro _ _
        exact ⟨fun z => absurd z hB, fun _ _ h => absurd h hn⟩
      · intro _
        rw [zp_Bu h3] at hB ⊢
        refine (zl_c (fun p e => ?_) (fun q a c v1 => ?_)).symm
        · have e' : zp_bd K N u (N u) = p + 1 := e
          obtain ⟨pu, v⟩ := zp_bdP e'
          exact (zn_V hk hK hus pu).mpr ⟨v.1, Or.inr ⟨fun z => hB (by omega), v.2.1⟩, v.2.2⟩
        · obtain ⟨w1, w2, w3⟩ := (zn_V hk hK hus c).mp v1
          rcases w2 with ⟨_, e⟩ | ⟨_, w2⟩
          · exact absurd e.symm hn
          · exact ⟨w1, w2, w3⟩
theorem zn_law (hk : k < sz) (hK : K k = 2) (hm : m ≠ N k) : zp_Lg K (zn_N K N sz k m) (fun i => i) (zp_B K N) sz ↔ ∀ u, k < u → u < sz → zn_ok K N k m u := by
  constructor
  · intro h u ku hu
    rcases Classical.em (K u = 3) with h3 | h3
    · have := h u hu h3
      rw [zp_omi] at this
      exact (zn_u hk hK hm hu h3).mp this ku
    · exact ⟨fun z => absurd (zp_Bs z).1 h3, fun _ z => absurd z h3⟩
  · intro h u hu h3
    rw [zp_omi]
    exact (zn_u hk hK hm hu h3).mpr (fun ku => h u ku hu)
theorem zn_same (hm : m = N k) : zn_N K N sz k m = N := by
  funext i
  unfold zn_N
  rcases Classical.em (i < sz ∧ (i = k ∨ zp_B K N i = k + 1)) with h | h
  · rw [if_pos h]
    rcases h.2 with e | e
    · rw [hm, e]
    · rw [hm, ← (zp_Bs e).2.2.2.1]
  · rw [if_neg h]
theorem zn_refl : zp_Lg K N (fun i => i) (zp_B K N) sz := by
  intro u _ h3
  rw [zp_omi]
  exact zp_Bu h3
theorem zn_lawE (hk : k < sz) (hK : K k = 2) (hm : m = N k) : zp_Lg K (zn_N K N sz k m) (fun i => i) (zp_B K N) sz := by
  rw [zn_same hm]; exact zn_refl
theorem zn_B (h : zp_Lg K (zn_N K N sz k m) (fun i => i) (zp_B K N) sz) (hu : u < sz) : zp_B K (zn_N K N sz k m) u = zp_B K N u := by
  rcases Classical.em (K u = 3) with h3 | h3
  · have := h u hu h3
    rw [zp_omi] at this
    rw [zp_Bu h3, ← this]
  · rw [zp_Bz h3, zp_Bz h3]
theorem zn_Ok (h : zp_Ok K N sz) (hm : m ≤ 7) : zp_Ok K (zn_N K N sz k m) sz := by
  refine ⟨h.1, h.2.1, fun i hi => ?_, h.2.2.2⟩
  unfold zn_N
  rcases Classical.em (i < sz ∧ (i = k ∨ zp_B K N i = k + 1)) with z | z
  · rw [if_pos z]; exact hm
  · rw [if_neg z]; exact h.2.2.1 i hi
end
end
section
/-! the law of swapping neighbours -/
def zs_O (k i : Nat) : Nat := if i = k then k + 1 else if i = k + 1 then k else i
theorem zs_cs (k i : Nat) : (i = k ∧ zs_O k i = k + 1) ∨ (i = k + 1 ∧ zs_O k i = k) ∨ (i ≠ k ∧ i ≠ k + 1 ∧ zs_O k i = i) := by
  unfold zs_O
  rcases Classical.em (i = k) with h | h
  · rw [if_pos h]; omega
  · rw [if_neg h]
    rcases Classical.em (i = k + 1) with h1 | h1
    · rw [if_pos h1]; omega
    · rw [if_neg h1]; omega
def zs_bad (K N : Nat → Nat) (sz k : Nat) : Prop := N k = N (k + 1) ∧ ((K k = 2 ∧ K (k + 1) = 3) ∨ (K k = 3 ∧ K (k + 1) = 2) ∨ (K k = 2 ∧ K (k + 1) = 2 ∧ ∃ u, u < sz ∧ zp_B K N u = k + 2))
section
variable {K N : Nat → Nat} {sz k u d n q : Nat}
theorem zs_k : zs_O k k = k + 1 := by have := zs_cs k k; omega
theorem zs_k1 : zs_O k (k + 1) = k := by have := zs_cs k (k + 1); omega
theorem zs_o (h : d ≠ k) (h1 : d ≠ k + 1) : zs_O k d = d := by have := zs_cs k d; omega
theorem zs_dp (h2 : 2 ≤ K k) (h3 : 2 ≤ K (k + 1)) : ∀ i, zp_dp (fun i => K (zs_O k i)) i = zp_dp K i
  | 0 => rfl
  | i + 1 => by
    have ih := zs_dp h2 h3 i
    rcases zs_cs k i with ⟨e, o⟩ | ⟨e, o⟩ | ⟨_, _, o⟩
    · rw [zp_d2 (K := fun i => K (zs_O k i)) (by rw [o]; omega) (by rw [o]; omega), zp_d2 (K := K) (by rw [e]; omega) (by rw [e]; omega), ih]
    · rw [zp_d2 (K := fun i => K (zs_O k i)) (by rw [o]; omega) (by rw [o]; omega), zp_d2 (K := K) (by rw [e]; omega) (by rw [e]; omega), ih]
    · simp only [zp_dp, o, ih]
theorem zs_In (h2 : 2 ≤ K k) (h3 : 2 ≤ K (k + 1)) : zp_In (fun i => K (zs_O k i)) d u ↔ zp_In K d u := by
  unfold zp_In
  simp only [zs_dp h2 h3]
theorem zs_V (h2 : 2 ≤ K k) (h3 : 2 ≤ K (k + 1)) : zp_V (fun i => K (zs_O k i)) (fun i => N (zs_O k i)) q n d ↔ K (zs_O k d) = 2 ∧ N (zs_O k d) = n ∧ zp_In K d q := by
  unfold zp_V
  rw [zs_In h2 h3]
theorem zs_dk (h2 : 2 ≤ K k) : zp_dp K (k + 1) = zp_dp K k := zp_d2 (by omega) (by omega)
theorem zs_Ik (h2 : 2 ≤ K k) (hq : k < q) : zp_In K k q ↔ zp_In K (k + 1) q := by
  have e := zs_dk h2
  constructor
  · intro h p a b
    have := h p (by omega) b
    omega
  · intro h p a b
    rcases Nat.lt_or_ge k p with z | z
    · have := h p z b; omega
    · have : k = p := by omega
      subst this; omega
theorem zs_Id (h2 : 2 ≤ K k) (hd : d ≤ k) : zp_In K d k ↔ zp_In K d (k + 1) := by
  have e := zs_dk h2
  constructor
  · intro h p a b
    rcases Nat.lt_or_ge k p with z | z
    · have : p = k + 1 := by omega
      subst this
      have := h k hd (by omega)
      omega
    · exact h p a z
  · intro h p a b
    exact h p a (by omega)
theorem zs_Io (h2 : 2 ≤ K k) (hq : k + 1 < q) : zp_In K d q ↔ zp_In K (zs_O k d) q := by
  rcases zs_cs k d with ⟨e, o⟩ | ⟨e, o⟩ | ⟨_, _, o⟩
  · rw [o, e]; exact zs_Ik h2 (by omega)
  · rw [o, e]; exact (zs_Ik h2 (by omega)).symm
  · rw [o]
/-- a use beyond the two -/
theorem zs_hi (h2 : 2 ≤ K k) (h3 : 2 ≤ K (k + 1)) (hq : k + 1 < q) : zp_bd K N q n = zp_om (zs_O k) (zp_bd (fun i => K (zs_O k i)) (fun i => N (zs_O k i)) q n) ↔ ¬ (zp_bd K N q n = k + 2 ∧ K k = 2 ∧ N k = n) := by
  have hV : ∀ d, zp_V (fun i => K (zs_O k i)) (fun i => N (zs_O k i)) q n d ↔ zp_V K N q n (zs_O k d) := by
    intro d
    rw [zs_V h2 h3, zs_Io (d := d) h2 hq]
    exact Iff.rfl
  have hl := zp_bdl (K := K) (N := N) (u := q) (n := n)
  have hr : ∀ s, s ≤ q → (∀ p, s = p + 1 → zp_V K N q n (zs_O k p)) → (∀ p, s ≤ p → p < q → ¬ zp_V K N q n (zs_O k p)) → zp_bd (fun i => K (zs_O k i)) (fun i => N (zs_O k i)) q n = s := by
    intro s a1 a2 a3
    exact zl_eq a1 (fun p e => (hV p).mpr (a2 p e)) (fun p e1 e2 e3 => a3 p e1 e2 ((hV p).mp e3))
  rcases Nat.eq_zero_or_pos (zp_bd K N q n) with z | z
  · have e := hr 0 (by omega) (fun p e => by omega) (fun p _ hp => zp_bdn (by omega) (by have := zs_cs k p; omega))
    rw [e, z]
    exact ⟨fun _ w => by omega, fun _ => rfl⟩
  · obtain ⟨e, he⟩ : ∃ e, zp_bd K N q n = e + 1 := ⟨zp_bd K N q n - 1, by omega⟩
    obtain ⟨eq, ve⟩ := zp_bdP he
    rcases zs_cs k e with ⟨ek, o⟩ | ⟨ek, o⟩ | ⟨e1, e2, o⟩
    · -- the first of the two
      have e' := hr (k + 2) (by omega) (fun p e => by
        have : p = k + 1 := by omega
        rw [this, zs_k1, ← ek]; exact ve) (fun p a c => zp_bdn (by have := zs_cs k p; omega) (by have := zs_cs k p; omega))
      rw [e', he]
      refine ⟨fun _ w => by omega, fun _ => ?_⟩
      show e + 1 = zs_O k (k + 1) + 1
      rw [zs_k1, ek]
    · rcases Classical.em (zp_V K N q n k) with vk | vk
      · have e' := hr (k + 2) (by omega) (fun p e => by
          have : p = k + 1 := by omega
          rw [this, zs_k1]; exact vk) (fun p a c => zp_bdn (by have := zs_cs k p; omega) (by have := zs_cs k p; omega))
        rw [e', he]
        refine ⟨fun h => ?_, fun h => absurd ⟨by omega, vk.1, vk.2.1⟩ h⟩
        have h' : e + 1 = zs_O k (k + 1) + 1 := h
        rw [zs_k1] at h'
        omega
      · have e' := hr (k + 1) (by omega) (fun p e => by
          have : p = k := by omega
          rw [this, zs_k, ← ek]; exact ve) (fun p a c => by
            rcases Classical.em (p = k + 1) with w | w
            · rw [w, zs_k1]; exact vk
            · exact zp_bdn (by have := zs_cs k p; omega) (by have := zs_cs k p; omega))
        rw [e', he]
        refine ⟨fun _ w => vk ⟨w.2.1, w.2.2, ?_⟩, fun _ => ?_⟩
        · rw [zs_Ik h2 (by omega), ← ek]; exact ve.2.2
        · show e + 1 = zs_O k k + 1
          rw [zs_k, ek]
    · have e' := hr (e + 1) (by omega) (fun p w => by
        have : p = e := by omega
        rw [this, o]; exact ve) (fun p a c => zp_bdn (by have := zs_cs k p; omega) (by have := zs_cs k p; omega))
      rw [e', he]
      refine ⟨fun _ w => by omega, fun _ => ?_⟩
      show e + 1 = zs_O k e + 1
      rw [o]
theorem zs_lo (h2 : 2 ≤ K k) (h3 : 2 ≤ K (k + 1)) (hq : q ≤ k) : zp_bd (fun i => K (zs_O k i)) (fun i => N (zs_O k i)) q n = zp_bd K N q n := by
  refine zl_e (fun p hp => ?_)
  rw [zs_V h2 h3, zs_o (by omega) (by omega)]
  exact Iff.rfl
theorem zs_oml {s : Nat} (h : s ≤ k) : zp_om (zs_O k) s = s := by
  cases s with
  | zero => rfl
  | succ p => show zs_O k p + 1 = p + 1; rw [zs_o (by omega) (by omega)]
/-- the use that comes one place forward -/
theorem zs_q0 (h2 : 2 ≤ K k) (h3 : 2 ≤ K (k + 1)) : zp_bd K N (k + 1) n = zp_om (zs_O k) (zp_bd (fun i => K (zs_O k i)) (fun i => N (zs_O k i)) k n) ↔ ¬ (K k = 2 ∧ N k = n) := by
  have hl := zp_bdl (K := K) (N := N) (u := k) (n := n)
  rw [zs_lo h2 h3 (Nat.le_refl _), zs_oml hl]
  have e : zl_a (zp_V K N (k + 1) n) k = zp_bd K N k n := zl_e (fun p hp => by
    unfold zp_V
    rw [zs_Id h2 (by omega)])
  rcases Classical.em (zp_V K N (k + 1) n k) with v | v
  · have : zp_bd K N (k + 1) n = k + 1 := zl_t v
    rw [this]
    exact ⟨fun h => by omega, fun h => absurd ⟨v.1, v.2.1⟩ h⟩
  · have : zp_bd K N (k + 1) n = zp_bd K N k n := by rw [← e]; exact zl_f v
    rw [this]
    refine ⟨fun _ w => v ⟨w.1, w.2, ?_⟩, fun _ => rfl⟩
    rw [← zs_Id h2 (Nat.le_refl _)]
    intro p a b
    have : k = p := by omega
    subst this; exact Nat.le_refl _
/-- the use that goes one place back -/
theorem zs_q1 (h2 : 2 ≤ K k) (h3 : 2 ≤ K (k + 1)) : zp_bd K N k n = zp_om (zs_O k) (zp_bd (fun i => K (zs_O k i)) (fun i => N (zs_O k i)) (k + 1) n) ↔ ¬ (K (k + 1) = 2 ∧ N (k + 1) = n) := by
  have hl := zp_bdl (K := K) (N := N) (u := k) (n := n)
  have hI : zp_In K k (k + 1) := by
    rw [← zs_Id h2 (Nat.le_refl _)]
    intro p a b
    have : k = p := by omega
    subst this; exact Nat.le_refl _
  rcases Classical.em (K (k + 1) = 2 ∧ N (k + 1) = n) with v | v
  · have : zp_bd (fun i => K (zs_O k i)) (fun i => N (zs_O k i)) (k + 1) n = k + 1 := zl_t ((zs_V h2 h3).mpr (by rw [zs_k]; exact ⟨v.1, v.2, hI⟩))
    rw [this]
    refine ⟨fun h => ?_, fun h => absurd v h⟩
    have h' : zp_bd K N k n = zs_O k k + 1 := h
    rw [zs_k] at h'
    omega
  · have e1 : zp_bd (fun i => K (zs_O k i)) (fun i => N (zs_O k i)) (k + 1) n = zl_a (zp_V (fun i => K (zs_O k i)) (fun i => N (zs_O k i)) (k + 1) n) k := zl_f (fun w => v (by
      have w' := (zs_V h2 h3).mp w
      rw [zs_k] at w'
      exact ⟨w'.1, w'.2.1⟩))
    have e2 : zl_a (zp_V (fun i => K (zs_O k i)) (fun i => N (zs_O k i)) (k + 1) n) k = zp_bd K N k n := zl_e (fun p hp => by
      rw [zs_V h2 h3, zs_o (by omega) (by omega), ← zs_Id h2 (by omega)]
      exact Iff.rfl)
    rw [e1, e2, zs_oml hl]
    exact ⟨fun _ => v, fun _ => rfl⟩
theorem zs_law (hk : k + 1 < sz) (h2 : 2 ≤ K k) (h3 : 2 ≤ K (k + 1)) : zp_Lg (fun i => K (zs_O k i)) (fun i => N (zs_O k i)) (zs_O k) (zp_B K N) sz ↔ ¬ zs_bad K N sz k := by
  constructor
  · rintro h ⟨hn, ⟨a, b⟩ | ⟨a, b⟩ | ⟨a, b, u, hu, hB⟩⟩
    · have w := h k (by omega) (by show K (zs_O k k) = 3; rw [zs_k]; exact b)
      dsimp only at w
      rw [zs_k, zp_Bu b] at w
      exact (zs_q0 h2 h3).mp w ⟨a, hn⟩
    · have w := h (k + 1) hk (by show K (zs_O k (k + 1)) = 3; rw [zs_k1]; exact a)
      dsimp only at w
      rw [zs_k1, zp_Bu a] at w
      exact (zs_q1 h2 h3).mp w ⟨b, hn.symm⟩
    · obtain ⟨u3, hlt, v⟩ := zp_Bs (d := k + 1) hB
      have o : zs_O k u = u := zs_o (by omega) (by omega)
      have w := h u hu (by show K (zs_O k u) = 3; rw [o]; exact u3)
      dsimp only at w
      rw [zp_Bu u3] at hB
      rw [o, zp_Bu u3] at w
      exact (zs_hi h2 h3 hlt).mp w ⟨hB, a, by rw [hn]; exact v.2.1⟩
  · intro h q hq h3q
    have h3q' : K (zs_O k q) = 3 := h3q
    dsimp only
    rw [zp_Bu h3q']
    rcases zs_cs k q with ⟨e, o⟩ | ⟨e, o⟩ | ⟨e1, e2, o⟩
    · rw [o] at h3q' ⊢
      rw [e]
      exact (zs_q0 h2 h3).mpr (fun w => h ⟨w.2, Or.inl ⟨w.1, h3q'⟩⟩)
    · rw [o] at h3q' ⊢
      rw [e]
      exact (zs_q1 h2 h3).mpr (fun w => h ⟨w.2.symm, Or.inr (Or.inl ⟨h3q', w.1⟩)⟩)
    · rw [o] at h3q' ⊢
      rcases Nat.lt_or_ge q k with z | z
      · rw [zs_lo h2 h3 (Nat.le_of_lt z), zs_oml (Nat.le_trans zp_bdl (Nat.le_of_lt z))]
      · refine (zs_hi h2 h3 (by omega)).mpr (fun w => ?_)
        obtain ⟨_, v⟩ := zp_bdP (d := k + 1) w.1
        exact h ⟨by rw [w.2.2]; exact v.2.1.symm, Or.inr (Or.inr ⟨w.2.1, v.1, q, hq, by rw [zp_Bu h3q']; exact w.1⟩)⟩
theorem zs_Ok (h : zp_Ok K N sz) (hk : k + 1 < sz) (h2 : 2 ≤ K k) (h3 : 2 ≤ K (k + 1)) : zp_Ok (fun i => K (zs_O k i)) (fun i => N (zs_O k i)) sz := by
  have h28 := h.1
  refine ⟨h.1, fun i hi => h.2.1 _ (by have := zs_cs k i; omega), fun i hi => h.2.2.1 _ (by have := zs_cs k i; omega), fun i hi e => ?_⟩
  rw [zs_dp h2 h3]
  have e' : K (zs_O k i) = 1 := e
  rcases zs_cs k i with ⟨_, o⟩ | ⟨_, o⟩ | ⟨_, _, o⟩
  · rw [o] at e'; omega
  · rw [o] at e'; omega
  · rw [o] at e'; exact h.2.2.2 i hi e'
end
end
section
/-! the law of moving a declaration out of its block -/
def zm_O (b k i : Nat) : Nat := if i = b then k else if b < i ∧ i ≤ k then i - 1 else i
def zm_J (b k i : Nat) : Nat := if i = k then b else if b ≤ i ∧ i < k then i + 1 else i
theorem zm_cs (b k i : Nat) : (i = b ∧ zm_O b k i = k) ∨ (b < i ∧ i ≤ k ∧ zm_O b k i = i - 1) ∨ (i < b ∧ zm_O b k i = i) ∨ (b < i ∧ k < i ∧ zm_O b k i = i) := by
  unfold zm_O
  rcases Classical.em (i = b) with h | h
  · rw [if_pos h]; omega
  · rw [if_neg h]
    rcases Classical.em (b < i ∧ i ≤ k) with h1 | h1
    · rw [if_pos h1]; omega
    · rw [if_neg h1]; omega
theorem zm_js (b k i : Nat) : (i = k ∧ zm_J b k i = b) ∨ (i ≠ k ∧ b ≤ i ∧ i < k ∧ zm_J b k i = i + 1) ∨ (i ≠ k ∧ (i < b ∨ k < i) ∧ zm_J b k i = i) := by
  unfold zm_J
  rcases Classical.em (i = k) with h | h
  · rw [if_pos h]; omega
  · rw [if_neg h]
    rcases Classical.em (b ≤ i ∧ i < k) with h1 | h1
    · rw [if_pos h1]; omega
    · rw [if_neg h1]; omega
section
variable {K N : Nat → Nat} {sz k b u d e n q s p : Nat}
theorem zm_OJ (hb : b < k) (i : Nat) : zm_O b k (zm_J b k i) = i := by
  have := zm_js b k i
  have := zm_cs b k (zm_J b k i)
  omega
theorem zm_Ob : zm_O b k b = k := by unfold zm_O; rw [if_pos rfl]
theorem zm_dp (hb : b < k) (hK : K k = 2) : ∀ i, (i = b ∧ zp_dp (fun i => K (zm_O b k i)) i = zp_dp K b) ∨ (i ≠ b ∧ zp_dp (fun i => K (zm_O b k i)) i = zp_dp K (zm_O b k i))
  | 0 => by
    rcases zm_cs b k 0 with ⟨e, o⟩ | ⟨e, _, o⟩ | ⟨e, o⟩ | ⟨e, _, o⟩
    · exact Or.inl ⟨e, by rw [← e]; rfl⟩
    · omega
    · exact Or.inr ⟨by omega, by rw [o]; rfl⟩
    · omega
  | i + 1 => by
    have ih := zm_dp hb hK i
    have hk1 : zp_dp K (k + 1) = zp_dp K k := zp_d2 (by omega) (by omega)
    have st : ∀ j, K (zm_O b k i) = K j → zp_dp (fun i => K (zm_O b k i)) i = zp_dp K j → zp_dp (fun i => K (zm_O b k i)) (i + 1) = zp_dp K (j + 1) := by
      intro j e1 e2
      simp only [zp_dp, e1, e2]
    have a := zm_cs b k i
    have c := zm_cs b k (i + 1)
    rcases a with ⟨e, o⟩ | ⟨e1, e2, o⟩ | ⟨e, o⟩ | ⟨e1, e2, o⟩
    · -- i = b
      refine Or.inr ⟨by omega, ?_⟩
      have o' : zm_O b k (i + 1) = b := by omega
      rw [o', zp_d2 (K := fun i => K (zm_O b k i)) (by rw [o]; omega) (by rw [o]; omega)]
      rcases ih with ⟨_, h⟩ | ⟨h, _⟩
      · exact h
      · exact absurd e h
    · have hd : zp_dp (fun i => K (zm_O b k i)) i = zp_dp K (i - 1) := by
        rcases ih with ⟨h, _⟩ | ⟨_, h⟩
        · omega
        · rw [h, o]
      have w := st (i - 1) (by rw [o]) hd
      have ei : i - 1 + 1 = i := by omega
      rw [ei] at w
      refine Or.inr ⟨by omega, ?_⟩
      rw [w]
      rcases Nat.lt_or_ge i k with z | z
      · have o' : zm_O b k (i + 1) = i := by omega
        rw [o']
      · have o' : zm_O b k (i + 1) = k + 1 := by omega
        have ik : i = k := by omega
        rw [o', hk1, ik]
    · have hd : zp_dp (fun i => K (zm_O b k i)) i = zp_dp K i := by
        rcases ih with ⟨h, _⟩ | ⟨_, h⟩
        · omega
        · rw [h, o]
      have w := st i (by rw [o]) hd
      rcases Nat.lt_or_ge (i + 1) b with z | z
      · have o' : zm_O b k (i + 1) = i + 1 := by omega
        exact Or.inr ⟨by omega, by rw [o']; exact w⟩
      · have ib : i + 1 = b := by omega
        exact Or.inl ⟨ib, w.trans (by rw [ib])⟩
    · have hd : zp_dp (fun i => K (zm_O b k i)) i = zp_dp K i := by
        rcases ih with ⟨h, _⟩ | ⟨_, h⟩
        · omega
        · rw [h, o]
      have w := st i (by rw [o]) hd
      have o' : zm_O b k (i + 1) = i + 1 := by omega
      exact Or.inr ⟨by omega, by rw [o']; exact w⟩
theorem zm_db (hb : b < k) (hK : K k = 2) : zp_dp (fun i => K (zm_O b k i)) b = zp_dp K b := by
  rcases zm_dp (K := K) hb hK b with ⟨_, h⟩ | ⟨h, _⟩
  · exact h
  · exact absurd rfl h
theorem zm_dn (hb : b < k) (hK : K k = 2) (hp : p ≠ b) : zp_dp (fun i => K (zm_O b k i)) p = zp_dp K (zm_O b k p) := by
  rcases zm_dp (K := K) hb hK p with ⟨h, _⟩ | ⟨_, h⟩
  · exact absurd h hp
  · exact h
/-- what is seen of what, but for k -/
theorem zm_In (hb : b < k) (hK : K k = 2) (hd : d ≠ b) (hq : q ≠ b) (hdq : d < q) : zp_In (fun i => K (zm_O b k i)) d q ↔ zp_In K (zm_O b k d) (zm_O b k q) := by
  have hk1 : zp_dp K (k + 1) = zp_dp K k := zp_d2 (by omega) (by omega)
  have cd := zm_cs b k d
  have cq := zm_cs b k q
  constructor
  · intro h p h1 h2
    rw [← zm_dn hb hK hd]
    rcases Classical.em (p = k) with e | e
    · have hk : k < zm_O b k q := by
        rcases Nat.lt_or_ge k (zm_O b k q) with z | z
        · exact z
        · omega
      have w := h (k + 1) (by omega) (by omega)
      rw [zm_dn hb hK (p := k + 1) (by omega)] at w
      have o : zm_O b k (k + 1) = k + 1 := by have := zm_cs b k (k + 1); omega
      rw [o, hk1] at w
      rw [e]; exact w
    · have j := zm_js b k p
      have w := h (zm_J b k p) (by omega) (by omega)
      rw [zm_dn hb hK (p := zm_J b k p) (by omega), zm_OJ hb] at w
      exact w
  · intro h p h1 h2
    rw [zm_dn hb hK hd]
    have cp := zm_cs b k p
    rcases Classical.em (p = b) with e | e
    · rw [e, zm_db hb hK]
      exact h b (by omega) (by omega)
    · rw [zm_dn hb hK e]
      exact h _ (by omega) (by omega)
theorem zm_Ib (hB : zp_bk K k = b + 1) (hK : K k = 2) (hq : b < q) : zp_In (fun i => K (zm_O b k i)) b q ↔ zp_In K b (zm_O b k q) := by
  obtain ⟨hb, b2, b3, b4⟩ := zp_bks hB
  have cq := zm_cs b k q
  constructor
  · intro h p h1 h2
    rcases Classical.em (p = k) with e | e
    · rw [e]; omega
    · have j := zm_js b k p
      have w := h (zm_J b k p) (by omega) (by omega)
      rw [zm_db hb hK, zm_dn hb hK (p := zm_J b k p) (by omega), zm_OJ hb] at w
      exact w
  · intro h p h1 h2
    rw [zm_db hb hK]
    have cp := zm_cs b k p
    rcases Classical.em (p = b) with e | e
    · rw [e, zm_db hb hK]; exact Nat.le_refl _
    · rw [zm_dn hb hK e]
      exact h _ (by omega) (by omega)
theorem zm_Vn (hb : b < k) (hK : K k = 2) (hd : d ≠ b) (hq : q ≠ b) (hdq : d < q) : zp_V (fun i => K (zm_O b k i)) (fun i => N (zm_O b k i)) q n d ↔ zp_V K N (zm_O b k q) n (zm_O b k d) := by
  unfold zp_V
  rw [zm_In hb hK hd hq hdq]
theorem zm_Vb (hB : zp_bk K k = b + 1) (hK : K k = 2) (hq : b < q) : zp_V (fun i => K (zm_O b k i)) (fun i => N (zm_O b k i)) q n b ↔ N k = n ∧ zp_In K b (zm_O b k q) := by
  unfold zp_V
  rw [zm_Ib hB hK hq]
  dsimp only
  rw [zm_Ob]
  exact ⟨fun h => h.2, fun h => ⟨hK, h⟩⟩
/-- a use that isn't bound to k -/
theorem zm_A (hB : zp_bk K k = b + 1) (hK : K k = 2) (hq : q ≠ b) (hs : zp_bd K N (zm_O b k q) n ≠ k + 1) (hV : ¬ zp_V (fun i => K (zm_O b k i)) (fun i => N (zm_O b k i)) q n b ∨ q < b ∨ b < zp_bd K N (zm_O b k q) n) : zp_bd K N (zm_O b k q) n = zp_om (zm_O b k) (zp_bd (fun i => K (zm_O b k i)) (fun i => N (zm_O b k i)) q n) := by
  obtain ⟨hb, b2, b3, b4⟩ := zp_bks hB
  have cq := zm_cs b k q
  rcases Nat.eq_zero_or_pos (zp_bd K N (zm_O b k q) n) with z | z
  · have e : zp_bd (fun i => K (zm_O b k i)) (fun i => N (zm_O b k i)) q n = 0 := by
      refine zl_eq (Nat.zero_le _) (fun p e => by omega) (fun d a c v => ?_)
      have cd := zm_cs b k d
      rcases Classical.em (d = b) with w | w
      · subst w
        rcases hV with y | y | y
        · exact y v
        · omega
        · omega
      · exact zp_bdn (d := zm_O b k d) (by omega) (by omega) ((zm_Vn hb hK w hq c).mp v)
    rw [e, z]; rfl
  · obtain ⟨e, he⟩ : ∃ e, zp_bd K N (zm_O b k q) n = e + 1 := ⟨zp_bd K N (zm_O b k q) n - 1, by omega⟩
    obtain ⟨eu, ve⟩ := zp_bdP he
    have eb : e ≠ b := fun h => by have := ve.1; rw [h] at this; omega
    have je := zm_js b k e
    have e' : zp_bd (fun i => K (zm_O b k i)) (fun i => N (zm_O b k i)) q n = zm_J b k e + 1 := by
      refine zl_eq (by omega) (fun p w => ?_) (fun d a c v => ?_)
      · have : p = zm_J b k e := by omega
        rw [this]
        refine (zm_Vn hb hK (by omega) hq (by omega)).mpr ?_
        rw [zm_OJ hb]; exact ve
      · have cd := zm_cs b k d
        rcases Classical.em (d = b) with w | w
        · subst w
          rcases hV with y | y | y
          · exact y v
          · omega
          · omega
        · exact zp_bdn (d := zm_O b k d) (by omega) (by omega) ((zm_Vn hb hK w hq c).mp v)
    rw [e', he]
    show e + 1 = zm_O b k (zm_J b k e) + 1
    rw [zm_OJ hb]
/-- .. that it catches -/
theorem zm_C (hB : zp_bk K k = b + 1) (hK : K k = 2) (hq : b < q) (hu : zm_O b k q ≠ b) (hs : zp_bd K N (zm_O b k q) n ≤ b) (hV : zp_V (fun i => K (zm_O b k i)) (fun i => N (zm_O b k i)) q n b) : zp_bd K N (zm_O b k q) n ≠ zp_om (zm_O b k) (zp_bd (fun i => K (zm_O b k i)) (fun i => N (zm_O b k i)) q n) := by
  obtain ⟨hb, b2, b3, b4⟩ := zp_bks hB
  have cq := zm_cs b k q
  have e : zp_bd (fun i => K (zm_O b k i)) (fun i => N (zm_O b k i)) q n = b + 1 := by
    refine zl_eq hq (fun p w => ?_) (fun d a c v => ?_)
    · have : b = p := by omega
      subst this; exact hV
    · have cd := zm_cs b k d
      exact zp_bdn (d := zm_O b k d) (by omega) (by omega) ((zm_Vn hb hK (by omega) (by omega) c).mp v)
  rw [e]
  intro h
  have h' : zp_bd K N (zm_O b k q) n = zm_O b k b + 1 := h
  rw [zm_Ob] at h'
  omega
/-- a use that is bound to k -/
theorem zm_K (hB : zp_bk K k = b + 1) (hK : K k = 2) (hs : zp_bd K N (zm_O b k q) n = k + 1) : zp_bd K N (zm_O b k q) n = zp_om (zm_O b k) (zp_bd (fun i => K (zm_O b k i)) (fun i => N (zm_O b k i)) q n) ↔ ∀ e, b < e → e < k → K e = 2 → N e = n → zp_bk K e ≠ b + 1 := by
  obtain ⟨hb, b2, b3, b4⟩ := zp_bks hB
  have cq := zm_cs b k q
  obtain ⟨ku, vk⟩ := zp_bdP hs
  have qb : b < q := by omega
  have hI : zp_In K b (zm_O b k q) := by
    intro p h1 h2
    rcases Nat.lt_or_ge b p with z | z
    · rcases Nat.lt_or_ge k p with y | y
      · have := vk.2.2 p (by omega) h2; omega
      · have := b4 p z y; omega
    · have : b = p := by omega
      subst this; exact Nat.le_refl _
  have hVb := (zm_Vb (N := N) (n := n) hB hK qb).mpr ⟨vk.2.1, hI⟩
  constructor
  · intro h e h1 h2 h3 h4 h5
    obtain ⟨c1, c2, c3, c4⟩ := zp_bks h5
    have ce := zm_cs b k (e + 1)
    have oe : zm_O b k (e + 1) = e := by omega
    have v1 : zp_V (fun i => K (zm_O b k i)) (fun i => N (zm_O b k i)) q n (e + 1) := by
      refine (zm_Vn hb hK (by omega) (by omega) (by omega)).mpr ?_
      rw [oe]
      refine ⟨h3, h4, fun p a c => ?_⟩
      rcases Nat.lt_or_ge k p with y | y
      · have := vk.2.2 p (by omega) c; omega
      · have := b4 p (by omega) y; omega
    have g := zp_bdg v1 (by omega)
    obtain ⟨p, hp⟩ : ∃ p, zp_bd (fun i => K (zm_O b k i)) (fun i => N (zm_O b k i)) q n = p + 1 := ⟨zp_bd (fun i => K (zm_O b k i)) (fun i => N (zm_O b k i)) q n - 1, by omega⟩
    rw [hp, hs] at h
    have h' : k + 1 = zm_O b k p + 1 := h
    have lp := (zp_bdP hp).1
    have vp := (zp_bdP hp).2
    have cp := zm_cs b k p
    -- p lies behind b, and comes from k: from behind k alone, and that is nothing
    omega
  · intro h
    have e : zp_bd (fun i => K (zm_O b k i)) (fun i => N (zm_O b k i)) q n = b + 1 := by
      refine zl_eq qb (fun p w => ?_) (fun d a c v => ?_)
      · have : b = p := by omega
        subst this; exact hVb
      · have cd := zm_cs b k d
        have v' := (zm_Vn hb hK (by omega) (by omega) c).mp v
        have dl : zm_O b k d < k := by
          rcases Nat.lt_or_ge (zm_O b k d) k with y | y
          · exact y
          · exact absurd v' (zp_bdn (by omega) (by omega))
        have db : zm_O b k d ≠ b := fun w => by have := v'.1; rw [w] at this; omega
        have h1 := v'.2.2 k (by omega) (by omega)
        have h2 := b4 (zm_O b k d) (by omega) (by omega)
        refine h (zm_O b k d) (by omega) dl v'.1 v'.2.1 (zp_bke (by omega) (by omega) (fun r a1 a2 => ?_))
        have := b4 r a1 (by omega)
        omega
    rw [e, hs]
    show k + 1 = zm_O b k b + 1
    rw [zm_Ob]
def zm_1 (K N : Nat → Nat) (sz k b : Nat) : Prop := (∃ u, u < sz ∧ zp_B K N u = k + 1) → ∀ e, b < e → e < k → K e = 2 → N e = N k → zp_bk K e ≠ b + 1
def zm_2 (K N : Nat → Nat) (sz k b : Nat) : Prop := ∀ u, b < u → u < sz → K u = 3 → N u = N k → zp_B K N u ≠ k + 1 → zp_In K b u → b < zp_B K N u
theorem zm_law (hk : k < sz) (hB : zp_bk K k = b + 1) (hK : K k = 2) : zp_Lg (fun i => K (zm_O b k i)) (fun i => N (zm_O b k i)) (zm_O b k) (zp_B K N) sz ↔ zm_1 K N sz k b ∧ zm_2 K N sz k b := by
  obtain ⟨hb, b2, b3, b4⟩ := zp_bks hB
  constructor
  · intro h
    have hq : ∀ u, u < sz → K u = 3 → zp_bd K N u (N u) = zp_om (zm_O b k) (zp_bd (fun i => K (zm_O b k i)) (fun i => N (zm_O b k i)) (zm_J b k u) (N u)) := by
      intro u hu h3
      have uk : u ≠ k := fun e => by rw [e] at h3; omega
      have j := zm_js b k u
      have w := h (zm_J b k u) (by omega) (by show K (zm_O b k (zm_J b k u)) = 3; rw [zm_OJ hb]; exact h3)
      dsimp only at w
      rw [zm_OJ hb, zp_Bu h3] at w
      exact w
    constructor
    · rintro ⟨u, hu, e⟩
      obtain ⟨h3, _, v⟩ := zp_Bs e
      have w := hq u hu h3
      rw [zp_Bu h3] at e
      have oj := zm_OJ hb u
      rw [v.2.1]
      exact (zm_K (q := zm_J b k u) (n := N u) hB hK (by rw [oj]; exact e)).mp (by rw [oj]; exact w)
    · intro u bu hu h3 hn hne hI
      have w := hq u hu h3
      rw [zp_Bu h3] at hne ⊢
      have oj := zm_OJ hb u
      have uk : u ≠ k := fun e => by rw [e] at h3; omega
      have j := zm_js b k u
      rcases Nat.lt_or_ge b (zp_bd K N u (N u)) with z | z
      · exact z
      · exact absurd (by rw [oj]; exact w) (zm_C (q := zm_J b k u) (n := N u) hB hK (by omega) (by omega) (by rw [oj]; exact z) ((zm_Vb hB hK (by omega)).mpr ⟨hn.symm, by rw [oj]; exact hI⟩))
  · rintro ⟨c1, c2⟩ q hq h3
    have h3' : K (zm_O b k q) = 3 := h3
    dsimp only
    rw [zp_Bu h3']
    have cq := zm_cs b k q
    have qb : q ≠ b := fun e => by rw [e, zm_Ob] at h3'; omega
    have ub : zm_O b k q ≠ b := fun e => by rw [e] at h3'; omega
    have us : zm_O b k q < sz := by omega
    rcases Classical.em (zp_bd K N (zm_O b k q) (N (zm_O b k q)) = k + 1) with e | e
    · refine (zm_K hB hK e).mpr ?_
      have w := c1 ⟨zm_O b k q, us, by rw [zp_Bu h3']; exact e⟩
      rw [(zp_bdP e).2.2.1] at w
      exact w
    · refine zm_A hB hK qb e ?_
      rcases Nat.lt_or_ge q b with z | z
      · exact Or.inr (Or.inl z)
      · rcases Classical.em (zp_V (fun i => K (zm_O b k i)) (fun i => N (zm_O b k i)) q (N (zm_O b k q)) b) with v | v
        · have v' := (zm_Vb hB hK (by omega)).mp v
          have w := c2 (zm_O b k q) (by omega) us h3' v'.1.symm (by rw [zp_Bu h3']; exact e) v'.2
          rw [zp_Bu h3'] at w
          exact Or.inr (Or.inr w)
        · exact Or.inl v
theorem zm_Ok (h : zp_Ok K N sz) (hk : k < sz) (hb : b < k) (hK : K k = 2) : zp_Ok (fun i => K (zm_O b k i)) (fun i => N (zm_O b k i)) sz := by
  have h28 := h.1
  refine ⟨h.1, fun i hi => h.2.1 _ (by have := zm_cs b k i; omega), fun i hi => h.2.2.1 _ (by have := zm_cs b k i; omega), fun i hi e => ?_⟩
  have e' : K (zm_O b k i) = 1 := e
  have c := zm_cs b k i
  have ib : i ≠ b := fun w => by rw [w, zm_Ob] at e'; omega
  rw [zm_dn hb hK ib]
  exact h.2.2.2 _ (by omega) e'
end
end
section
/-! the component: helpers -/
/-- what learn() knows of the blocks -/
def zx_Bl (K : Nat → Nat) (sz : Nat) (xb xd xe : Nat → Int32) : Prop := ∀ k, k < sz → xb k = zb_I (zp_bk K k) ∧ xd k = nI (zp_dp K k) ∧ (K k = 0 → ∃ e, xe k = nI e ∧ zp_En K sz k e)
def zx_Kn (K N : Nat → Nat) (sz : Nat) (xb xd xe xt : Nat → Int32) : Prop := zx_Bl K sz xb xd xe ∧ ∀ k, k < sz → xt k = zb_I (zp_B K N k)
theorem zx_10 : ¬ (1 : Int32) = 0 := by decide
section
variable {K N : Nat → Nat} {sz : Nat} {kn : Int32} {xk xn xb xd xe xt xo : Nat → Int32}
theorem zx_isP1 {post : Int32 → Prop} {j : Nat} (hs : sz ≤ 28) (hj : j < sz) (h : post 1) : wpX_isPlace post (nI sz, kn, xk, xn, xb, xd, xe, xt, xo) (nI j) :=
  br_f (nI_pos (by omega)) (br_f (nI_ge hj (by omega)) h)
theorem zx_isP0 {post : Int32 → Prop} {p : Int32} (hp : p < 0 ∨ nI sz ≤ p) (h : post 0) : wpX_isPlace post (nI sz, kn, xk, xn, xb, xd, xe, xt, xo) p := by
  rcases Classical.em (p < 0) with z | z
  · exact br_t z h
  · exact br_f z (br_t (hp.resolve_left z) h)
theorem zx_isA1 {post : Int32 → Prop} {j : Nat} (c : Nat) (hs : sz ≤ 28) (hK : zb_At xk K) (hj : j < sz) (hc : c < 128) (e : K j = c) (h : post 1) : wpX_isA post (nI sz, kn, xk, xn, xb, xd, xe, xt, xo) (nI j) (nI c) := by
  unfold wpX_isA
  exact zx_isP1 hs hj (br_f zx_10 ⟨zb_in (by omega), br_t ((zb_k c hK (by omega) (by omega) hc).mpr e) h⟩)
theorem zx_isA0 {post : Int32 → Prop} {j : Nat} (c : Nat) (hs : sz ≤ 28) (hK : zb_At xk K) (h3 : ∀ i, i < 28 → K i ≤ 3) (hj : j < sz) (hc : c < 128) (e : K j ≠ c) (h : post 0) : wpX_isA post (nI sz, kn, xk, xn, xb, xd, xe, xt, xo) (nI j) (nI c) := by
  unfold wpX_isA
  have k3 := h3 j (by omega)
  exact zx_isP1 hs hj (br_f zx_10 ⟨zb_in (by omega), br_f (fun z => e ((zb_k c hK (by omega) (by omega) hc).mp z)) h⟩)
theorem zx_isAb {post : Int32 → Prop} {p c : Int32} (hp : p < 0 ∨ nI sz ≤ p) (h : post 0) : wpX_isA post (nI sz, kn, xk, xn, xb, xd, xe, xt, xo) p c := by
  unfold wpX_isA
  exact zx_isP0 hp (br_t rfl h)
/-- the count of open blocks -/
theorem zx_oc4 {post : Int32 → Prop} (hO : zp_Ok K N sz) (hK : zb_At xk K) (h : post (nI (zp_dp K sz))) : ∀ n i, i ≤ sz → sz - i < n → wX_openCount_4 post (nI sz) kn xk xn xb xd xe xt xo n (nI (zp_dp K i)) (nI i) := by
  intro n
  have hs := hO.1
  induction n with
  | zero => intro i _ z; omega
  | succ n ih =>
    intro i hi hn
    refine zb_if (nI_leI (by omega) (by omega)) (fun z => ?_) (fun z => ⟨zb_in (by omega), ?_⟩)
    · have : i = sz := by omega
      subst this; exact h
    · have k3 := hO.2.1 i (by omega)
      have w := ih (i + 1) (by omega) (by omega)
      refine zb_if (zb_k 0 hK (by omega) (by omega) (by decide)) (fun a => ?_) (fun a => ⟨zb_in (by omega), zb_if (zb_k 1 hK (by omega) (by omega) (by decide)) (fun a1 => ?_) (fun a1 => ?_)⟩)
      · rw [zp_d0 a] at w
        exact nm_r (nI_1 _) (nm_r (nI_1 _) w)
      · have p := hO.2.2.2 i (by omega) a1
        obtain ⟨q, eq⟩ : ∃ q, zp_dp K i = q + 1 := ⟨zp_dp K i - 1, by omega⟩
        rw [zp_d1 a1, eq] at w
        rw [eq]
        exact nm_r (pk_m1 q) (nm_r (nI_1 _) w)
      · rw [zp_d2 a a1] at w
        exact nm_r (Int32.add_zero _) (nm_r (nI_1 _) w)
theorem zx_oc {post : Int32 → Prop} (hO : zp_Ok K N sz) (hK : zb_At xk K) (h : post (nI (zp_dp K sz))) : wpX_openCount post (nI sz, kn, xk, xn, xb, xd, xe, xt, xo) :=
  ⟨sz + 1, zx_oc4 hO hK h (sz + 1) 0 (by omega) (by omega)⟩
/-- seeing and hiding -/
theorem zx_inB {post : Int32 → Prop} {d u : Nat} (hs : sz ≤ 28) (hb : zx_Bl K sz xb xd xe) (hdu : d < u) (hu : u < sz) (h1 : zp_In K d u → post 1) (h0 : ¬ zp_In K d u → post 0) : wpX_inBlockOf post (nI sz, kn, xk, xn, xb, xd, xe, xt, xo) (nI d) (nI u) := by
  obtain ⟨b1, b2, b3⟩ := hb d (by omega)
  have hl := zp_bkl (K := K) (k := d)
  refine ⟨zb_in (by omega), nm_r (zb_rdI (by omega) b1) ?_⟩
  refine zb_if (zb_ltI0 (by omega)) (fun h => h1 (zp_in0 h)) (fun h => ?_)
  obtain ⟨b, eb⟩ : ∃ b, zp_bk K d = b + 1 := ⟨zp_bk K d - 1, by omega⟩
  obtain ⟨c1, c2, c3, c4⟩ := zp_bks eb
  obtain ⟨e, ee, hE⟩ := (hb b (by omega)).2.2 c2
  have he := hE.2.1
  have re : xe (nI b).toNatClampNeg = nI e := by rw [zb_c (by omega), ee]
  rw [eb, zb_Is, re]
  refine zb_if (nI_leI (by omega) (by omega)) (fun z => by omega) (fun z => ⟨zb_in (by omega), ?_⟩)
  refine zb_if (nI_ltI (by omega) (by omega)) (fun y => h0 (fun w => ?_)) (fun y => h1 ((zp_inb eb hE (by omega) hu).mp (by omega)))
  have := (zp_inb eb hE (Nat.le_of_lt hdu) hu).mpr w
  omega
theorem zx_sees {post : Int32 → Prop} {d u : Nat} (hs : sz ≤ 28) (hb : zx_Bl K sz xb xd xe) (hd : d < sz) (hu : u < sz) (h1 : d < u → zp_In K d u → post 1) (h0 : ¬ (d < u ∧ zp_In K d u) → post 0) : wpX_sees post (nI sz, kn, xk, xn, xb, xd, xe, xt, xo) (nI d) (nI u) := by
  refine zb_if (nI_leI (by omega) (by omega)) (fun h => h0 (fun w => absurd w.1 (by omega))) (fun h => ?_)
  exact zx_inB hs hb (by omega) hu (fun w => br_f zx_10 (h1 (by omega) w)) (fun w => br_t rfl (h0 (fun z => w z.2)))
theorem zx_hid {post : Int32 → Prop} {d e u : Nat} (hs : sz ≤ 28) (hb : zx_Bl K sz xb xd xe) (hd : d ≤ u) (he : e ≤ u) (hds : d < sz) (hes : e < sz) (Id : zp_In K d u) (Ie : zp_In K e u) (hne : d ≠ e) (h1 : e < d → post 1) (h0 : d < e → post 0) : wpX_hides post (nI sz, kn, xk, xn, xb, xd, xe, xt, xo) (nI d) (nI e) := by
  have rd : xd (nI d).toNatClampNeg = nI (zp_dp K d) := by rw [zb_c (by omega), (hb d hds).2.1]
  have re : xd (nI e).toNatClampNeg = nI (zp_dp K e) := by rw [zb_c (by omega), (hb e hes).2.1]
  have l1 := zp_le (K := K) d
  have l2 := zp_le (K := K) e
  refine ⟨zb_in (by omega), zb_in (by omega), ?_⟩
  rw [rd, re]
  refine zb_if (nI_ltI (by omega) (by omega)) (fun z => h1 ?_) (fun z => ⟨zb_in (by omega), zb_in (by omega), ?_⟩)
  · rcases Nat.lt_or_ge e d with y | y
    · exact y
    · have := Id e y he; omega
  · refine zb_if (nI_eq (by omega) (by omega)) (fun y => zb_if (nI_leI (by omega) (by omega)) (fun x => h0 (by omega)) (fun x => h1 (by omega))) (fun y => h0 ?_)
    rcases Nat.lt_or_ge d e with x | x
    · exact x
    · have := Ie d (by omega) hd; omega
/-- the declaration of a name that is seen at a place -/
theorem zx_win5 {post : Int32 → Prop} {nm u : Nat} (hO : zp_Ok K N sz) (hK : zb_At xk K) (hN : zb_At xn N) (hb : zx_Bl K sz xb xd xe) (hnm : nm < 128) (hu : u < sz) (h : post (zb_I (zp_bd K N u nm))) : ∀ n i, i ≤ u → u - i < n → wX_winner_5 post (nI nm) (nI u) (nI sz) kn xk xn xb xd xe xt xo n (zb_I (zl_a (zp_V K N u nm) i)) (nI i) := by
  intro n
  have hs := hO.1
  induction n with
  | zero => intro i _ z; omega
  | succ n ih =>
    intro i hi hn
    refine zb_if (nI_leI (by omega) (by omega)) (fun z => ?_) (fun z => ⟨zb_in (by omega), ?_⟩)
    · have : i = u := by omega
      subst this; exact h
    · have k3 := hO.2.1 i (by omega)
      have n7 := hO.2.2.1 i (by omega)
      have lz := zl_le (P := zp_V K N u nm) i
      have w := ih (i + 1) (by omega) (by omega)
      have hno : ¬ zp_V K N u nm i → wX_winner_47 post (wX_winner_5 post (nI nm) (nI u) (nI sz) kn xk xn xb xd xe xt xo n) (nI nm) (nI u) (zb_I (zl_a (zp_V K N u nm) i)) (nI i) (nI sz) kn xk xn xb xd xe xt xo := by
        intro v
        rw [zl_f v] at w
        exact br_t rfl (nm_r (nI_1 i) w)
      have hyes : zp_V K N u nm i → wX_winner_48 post (wX_winner_5 post (nI nm) (nI u) (nI sz) kn xk xn xb xd xe xt xo n) (nI nm) (nI u) (zb_I (zl_a (zp_V K N u nm) i)) (nI i) 1 (nI sz) kn xk xn xb xd xe xt xo := by
        intro v
        rw [zl_t v, zb_Is] at w
        refine br_f zx_10 (zb_if (zb_ltI0 (by omega)) (fun _ => nm_r (nI_1 i) w) (fun z0 => ?_))
        obtain ⟨o, eo⟩ : ∃ o, zl_a (zp_V K N u nm) i = o + 1 := ⟨zl_a (zp_V K N u nm) i - 1, by omega⟩
        rw [eo, zb_Is]
        have vo := zl_P eo
        exact zx_hid (u := u) hs hb (by omega) (by omega) (by omega) (by omega) v.2.2 vo.2.2 (by omega) (fun _ => br_f zx_10 (nm_r (nI_1 i) w)) (fun _ => by omega)
      refine zb_if (zb_k 2 hK (by omega) (by omega) (by decide)) (fun a => ⟨zb_in (by omega), zb_if (zb_k nm hN (by omega) (by omega) hnm) (fun b => ?_) (fun b => hno (fun v => b v.2.1))⟩) (fun a => hno (fun v => a v.1))
      exact zx_sees hs hb (by omega) hu (fun _ c => br_f zx_10 (hyes ⟨a, b, c⟩)) (fun c => br_t rfl (hno (fun v => c ⟨by omega, v.2.2⟩)))
theorem zx_win {post : Int32 → Prop} {nm u : Nat} (hO : zp_Ok K N sz) (hK : zb_At xk K) (hN : zb_At xn N) (hb : zx_Bl K sz xb xd xe) (hnm : nm < 128) (hu : u < sz) (h : post (zb_I (zp_bd K N u nm))) : wpX_winner post (nI sz, kn, xk, xn, xb, xd, xe, xt, xo) (nI nm) (nI u) :=
  ⟨u + 1, zx_win5 hO hK hN hb hnm hu h (u + 1) 0 (by omega) (by omega)⟩
end
end
section
/-! the component: learn -/
/-- the first loop of learn ahead of place i -/
def zx_L (K : Nat → Nat) (sz i : Nat) (xb xd xe xo : Nat → Int32) : Prop :=
  (∀ k, k < i → xb k = zb_I (zp_bk K k) ∧ xd k = nI (zp_dp K k)) ∧
  (∀ b, b < i → K b = 0 → ∃ e, xe b = nI e ∧ b < e ∧ e ≤ sz ∧ (∀ p, b < p → p ≤ i → p ≤ e → zp_dp K b < zp_dp K p) ∧ (e < sz → e < i ∧ zp_dp K (e + 1) ≤ zp_dp K b)) ∧
  (∀ j, j < zp_dp K i → xo j = zb_I (zl_a (fun p => zp_dp K p < j + 1) i))
section
variable {K N : Nat → Nat} {sz i : Nat} {kn : Int32} {xk xn xb xd xe xt xo : Nat → Int32}
theorem zx_L0 : zx_L K sz 0 xb xd xe xo :=
  ⟨fun k h => absurd h (Nat.not_lt_zero k), fun k h => absurd h (Nat.not_lt_zero k), fun j h => absurd h (by rw [zp_00]; omega)⟩
theorem zx_Lz (h : zx_L K sz sz xb xd xe xo) : zx_Bl K sz xb xd xe := by
  intro k hk
  refine ⟨(h.1 k hk).1, (h.1 k hk).2, fun z => ?_⟩
  obtain ⟨e, e1, e2, e3, e4, e5⟩ := h.2.1 k hk z
  exact ⟨e, e1, e2, e3, fun p a b => e4 p a (by omega) b, fun z => (e5 z).2⟩
theorem zx_Lb (h : zx_L K sz i xb xd xe xo) : ∀ k, k < i + 1 → upd xb i (zb_I (zp_bk K i)) k = zb_I (zp_bk K k) ∧ upd xd i (nI (zp_dp K i)) k = nI (zp_dp K k) := by
  intro k hk
  rcases Classical.em (k = i) with e | e
  · subst e; exact ⟨pk_us, pk_us⟩
  · rw [pk_un e, pk_un e]; exact h.1 k (by omega)
/-- the stack of open blocks, where the depth doesn't grow -/
theorem zx_Lo (h : zx_L K sz i xb xd xe xo) (hd : zp_dp K (i + 1) ≤ zp_dp K i) : ∀ j, j < zp_dp K (i + 1) → xo j = zb_I (zl_a (fun p => zp_dp K p < j + 1) (i + 1)) := by
  intro j hj
  rw [zl_f (P := fun p => zp_dp K p < j + 1) (p := i) (by show ¬ zp_dp K i < j + 1; omega)]
  exact h.2.2 j (by omega)
theorem zx_L_op (hsz : i < sz) (h : zx_L K sz i xb xd xe xo) (a : K i = 0) : zx_L K sz (i + 1) (upd xb i (zb_I (zp_bk K i))) (upd xd i (nI (zp_dp K i))) (upd xe i (nI sz)) (upd xo (zp_dp K i) (nI i)) := by
  have hd := zp_d0 a
  refine ⟨zx_Lb h, fun b hb hK => ?_, fun j hj => ?_⟩
  · rcases Classical.em (b = i) with e | e
    · subst e
      refine ⟨sz, pk_us, hsz, Nat.le_refl _, fun p p1 p2 _ => ?_, fun z => absurd z (Nat.lt_irrefl _)⟩
      have : p = b + 1 := by omega
      subst this; omega
    · obtain ⟨f, e1, e2, e3, e4, e5⟩ := h.2.1 b (by omega) hK
      refine ⟨f, by rw [pk_un e]; exact e1, e2, e3, fun p p1 p2 p3 => ?_, fun z => ⟨by have := e5 z; omega, (e5 z).2⟩⟩
      rcases Nat.lt_or_ge i p with y | y
      · have : p = i + 1 := by omega
        subst this
        have := e4 i (by omega) (by omega) (by omega)
        omega
      · exact e4 p p1 y p3
  · rcases Classical.em (j = zp_dp K i) with e | e
    · rw [e, pk_us, zl_t (P := fun p => zp_dp K p < zp_dp K i + 1) (p := i) (by show zp_dp K i < zp_dp K i + 1; omega)]
      rfl
    · rw [pk_un e, zl_f (P := fun p => zp_dp K p < j + 1) (p := i) (by show ¬ zp_dp K i < j + 1; omega)]
      exact h.2.2 j (by omega)
theorem zx_L_no (h : zx_L K sz i xb xd xe xo) (a : K i ≠ 0) (a1 : K i ≠ 1) : zx_L K sz (i + 1) (upd xb i (zb_I (zp_bk K i))) (upd xd i (nI (zp_dp K i))) xe xo := by
  have hd := zp_d2 a a1
  refine ⟨zx_Lb h, fun b hb hK => ?_, zx_Lo h (by omega)⟩
  have e : b ≠ i := fun e => a (by rw [← e]; exact hK)
  obtain ⟨f, e1, e2, e3, e4, e5⟩ := h.2.1 b (by omega) hK
  refine ⟨f, e1, e2, e3, fun p p1 p2 p3 => ?_, fun z => ⟨by have := e5 z; omega, (e5 z).2⟩⟩
  rcases Nat.lt_or_ge i p with y | y
  · have : p = i + 1 := by omega
    subst this
    have := e4 i (by omega) (by omega) (by omega)
    omega
  · exact e4 p p1 y p3
theorem zx_L_cl {c : Nat} (hsz : i < sz) (h : zx_L K sz i xb xd xe xo) (a : K i = 1) (hp : 0 < zp_dp K i) (hc : zl_a (fun p => zp_dp K p < zp_dp K i) i = c + 1) : zx_L K sz (i + 1) (upd xb i (zb_I (zp_bk K i))) (upd xd i (nI (zp_dp K i))) (upd xe c (nI i)) xo := by
  have hd := zp_d1 a
  obtain ⟨c1, c2, c3, c4⟩ := zp_lev (Nat.le_refl _) hc
  refine ⟨zx_Lb h, fun b hb hK => ?_, zx_Lo h (by omega)⟩
  have bi : b ≠ i := fun e => by rw [e] at hK; omega
  rcases Classical.em (b = c) with e | e
  · subst e
    refine ⟨i, pk_us, c1, Nat.le_of_lt hsz, fun p p1 p2 p3 => ?_, fun _ => ⟨by omega, by omega⟩⟩
    have := c4 p p1 p3
    omega
  · obtain ⟨f, e1, e2, e3, e4, e5⟩ := h.2.1 b (by omega) hK
    refine ⟨f, by rw [pk_un e]; exact e1, e2, e3, fun p p1 p2 p3 => ?_, fun z => ⟨by have := e5 z; omega, (e5 z).2⟩⟩
    rcases Nat.lt_or_ge i p with y | y
    · have : p = i + 1 := by omega
      subst this
      have h1 := e4 i (by omega) (by omega) (by omega)
      rcases Nat.lt_or_ge b c with x | x
      · have := e4 c x (by omega) (by omega)
        omega
      · have := c4 b (by omega) (by omega)
        omega
    · exact e4 p p1 y p3
theorem zx_46 {post : SX → Prop} {J : Int32 → Int32 → (Nat → Int32) → (Nat → Int32) → (Nat → Int32) → (Nat → Int32) → (Nat → Int32) → (Nat → Int32) → (Nat → Int32) → Prop} (hO : zp_Ok K N sz) (hK : zb_At xk K) (hi : i < sz) (hL : zx_L K sz i xb xd xe xo) (hJ : ∀ yb yd ye yo, zx_L K sz (i + 1) yb yd ye yo → J (nI (zp_dp K (i + 1))) (nI (i + 1)) xk xn yb yd ye xt yo) : wX_learn_46 post J (nI (zp_dp K i)) (nI i) (zb_I (zp_bk K i)) (nI i) (nI sz) kn xk xn xb xd xe xt xo := by
  have hs := hO.1
  have k3 := hO.2.1 i (by omega)
  have l1 := zp_bkl (K := K) (k := i)
  have l2 := zp_le (K := K) i
  refine ⟨zb_in (by omega), nm_r (e' := upd xb i (zb_I (zp_bk K i))) (by rw [zb_c (by omega), zb_vI (by omega)]) ⟨zb_in (by omega), nm_r (e' := upd xd i (nI (zp_dp K i))) (by rw [zb_c (by omega), zb_vn8 (by omega)]) ⟨zb_in (by omega), ?_⟩⟩⟩
  refine zb_if (zb_k 0 hK (by omega) (by omega) (by decide)) (fun a => ⟨zb_in30 (by omega), ?_⟩) (fun a => ⟨zb_in (by omega), zb_if (zb_k 1 hK (by omega) (by omega) (by decide)) (fun a1 => ?_) (fun a1 => ?_)⟩)
  · have w := hJ _ _ _ _ (zx_L_op hi hL a)
    rw [zp_d0 a] at w
    exact nm_r (e' := upd xo (zp_dp K i) (nI i)) (by rw [zb_c30 (by omega), zb_vn8 (by omega)]) ⟨zb_in (by omega), nm_r (e' := upd xe i (nI sz)) (by rw [zb_c (by omega), zb_vn8 (by omega)]) (nm_r (nI_1 _) (nm_r (nI_1 _) w))⟩
  · have p := hO.2.2.2 i hi a1
    obtain ⟨q, eq⟩ : ∃ q, zp_dp K i = q + 1 := ⟨zp_dp K i - 1, by omega⟩
    have ho := hL.2.2 q (by omega)
    rw [← eq] at ho
    have l0 : zl_a (fun p => zp_dp K p < zp_dp K i) i ≠ 0 := fun z => by have := zp_lev0 (Nat.le_refl _) z; omega
    obtain ⟨c, ec⟩ : ∃ c, zl_a (fun p => zp_dp K p < zp_dp K i) i = c + 1 := ⟨zl_a (fun p => zp_dp K p < zp_dp K i) i - 1, by omega⟩
    have lc := (zp_lev (Nat.le_refl _) ec).1
    rw [ec, zb_Is] at ho
    have w := hJ _ _ _ _ (zx_L_cl hi hL a1 p ec)
    have ro : xo (nI q).toNatClampNeg = nI c := by rw [zb_c30 (by omega), ho]
    rw [zp_d1 a1, eq] at w
    refine nm_r (e' := nI q) (by rw [eq]; exact pk_m1 q) ?_
    rw [ro]
    rw [eq]
    exact ⟨zb_in30 (by omega), zb_in (by omega), nm_r (e' := upd xe c (nI i)) (by rw [zb_c (by omega), zb_vn8 (by omega)]) (nm_r (nI_1 _) w)⟩
  · have w := hJ _ _ _ _ (zx_L_no hL a a1)
    rw [zp_d2 a a1] at w
    exact nm_r (nI_1 _) w
theorem zx_17 {post : SX → Prop} (hO : zp_Ok K N sz) (hK : zb_At xk K) (h : ∀ yb yd ye yo, zx_Bl K sz yb yd ye → ∃ n, wX_learn_123 post (nI sz) kn n 0 xk xn yb yd ye xt yo) : ∀ n i xb xd xe xo, i ≤ sz → sz - i < n → zx_L K sz i xb xd xe xo → wX_learn_17 post (nI sz) kn n (nI (zp_dp K i)) (nI i) xk xn xb xd xe xt xo := by
  intro n
  have hs := hO.1
  induction n with
  | zero => intro i _ _ _ _ _ z; omega
  | succ n ih =>
    intro i xb xd xe xo hi hn hL
    have l2 := zp_le (K := K) i
    refine zb_if (nI_leI (by omega) (by omega)) (fun z => ?_) (fun z => ?_)
    · have : i = sz := by omega
      subst this; exact h _ _ _ _ (zx_Lz hL)
    · have key := zx_46 (post := post) (kn := kn) (xn := xn) (xt := xt) (J := wX_learn_17 post (nI sz) kn n) hO hK (by omega) hL (fun yb yd ye yo hL' => ih (i + 1) yb yd ye yo (by omega) (by omega) hL')
      refine zb_if (nI_leI (b := 0) (by omega) (by decide)) (fun y => ?_) (fun y => ?_)
      · rw [zp_bkz (k := i) (by omega)] at key
        exact key
      · obtain ⟨q, eq⟩ : ∃ q, zp_dp K i = q + 1 := ⟨zp_dp K i - 1, by omega⟩
        have ho := hL.2.2 q (by omega)
        rw [← eq] at ho
        have e1 : nI (zp_dp K i) - 1 = nI q := by rw [eq]; exact nI_pred q
        have ro : xo (nI q).toNatClampNeg = zb_I (zp_bk K i) := by rw [zb_c30 (by omega), ho]; rfl
        rw [e1, ro]
        exact ⟨zb_in30 (by omega), key⟩
theorem zx_123 {post : SX → Prop} (hO : zp_Ok K N sz) (hK : zb_At xk K) (hN : zb_At xn N) (hb : zx_Bl K sz xb xd xe) (h : ∀ yt, (∀ k, k < sz → yt k = zb_I (zp_B K N k)) → post (nI sz, kn, xk, xn, xb, xd, xe, yt, xo)) : ∀ n i xt, i ≤ sz → sz - i < n → (∀ k, k < i → xt k = zb_I (zp_B K N k)) → wX_learn_123 post (nI sz) kn n (nI i) xk xn xb xd xe xt xo := by
  intro n
  have hs := hO.1
  induction n with
  | zero => intro i _ _ z; omega
  | succ n ih =>
    intro i xt hi hn hT
    refine zb_if (nI_leI (by omega) (by omega)) (fun z => ?_) (fun z => ⟨zb_in (by omega), ?_⟩)
    · have : i = sz := by omega
      subst this; exact h _ hT
    · have k3 := hO.2.1 i (by omega)
      have n7 := hO.2.2.1 i (by omega)
      have lB := zp_Bl (K := K) (N := N) (u := i)
      have w := ih (i + 1) (upd xt i (zb_I (zp_B K N i))) (by omega) (by omega) (fun k hk => by
        rcases Classical.em (k = i) with e | e
        · subst e; exact pk_us
        · rw [pk_un e]; exact hT k (by omega))
      refine zb_if (zb_k 3 hK (by omega) (by omega) (by decide)) (fun a => ⟨zb_in (by omega), ?_⟩) (fun a => ⟨zb_in (by omega), ?_⟩)
      · rw [zb_rd hN (by omega)]
        refine zx_win hO hK hN hb (by omega) (by omega) ⟨zb_in (by omega), ?_⟩
        rw [← zp_Bu a]
        exact nm_r (e' := upd xt i (zb_I (zp_B K N i))) (by rw [zb_c (by omega), zb_vI8 (by omega)]) (nm_r (nI_1 _) w)
      · rw [zp_Bz a] at w
        exact nm_r (e' := upd xt i (zb_I 0)) (by rw [zb_c (by omega), ← zb_I0, zb_vI8 (by omega)]) (nm_r (nI_1 _) w)
theorem zx_learn {post : SX → Prop} (hO : zp_Ok K N sz) (hK : zb_At xk K) (hN : zb_At xn N) (hkn : kn = 0 ∨ (kn = 1 ∧ zx_Kn K N sz xb xd xe xt)) (h : ∀ yb yd ye yt yo, zx_Kn K N sz yb yd ye yt → post (nI sz, 1, xk, xn, yb, yd, ye, yt, yo)) : wpX_learn post (nI sz, kn, xk, xn, xb, xd, xe, xt, xo) := by
  have hs := hO.1
  rcases hkn with e | ⟨e, hk⟩
  · subst e
    refine br_t rfl ⟨sz + 1, zx_17 (kn := 1) hO hK (fun yb yd ye yo hb => ⟨sz + 1, ?_⟩) (sz + 1) 0 _ _ _ _ (by omega) (by omega) zx_L0⟩
    exact zx_123 (kn := 1) hO hK hN hb (fun yt hT => h _ _ _ _ _ ⟨hb, hT⟩) (sz + 1) 0 xt (by omega) (by omega) (fun k hk => absurd hk (Nat.not_lt_zero k))
  · subst e
    exact br_f zx_10 (h _ _ _ _ _ hk)
end
end
section
/-! the reference: helpers -/
section
variable {K N K1 N1 O W : Nat → Nat} {sz : Nat} {yk yn ck cn co aw : Nat → Int32}
theorem zy_ar6 {post : Int32 → Prop} {k : Nat} (hk : k ≤ 28) (hC : zb_At ck K) (h3 : ∀ i, i < 28 → K i ≤ 3) (hB : zp_Bal K k) : ∀ n s c, s ≤ k → s < n → c + zp_dp K k = zp_dp K s → post (zb_I (zl_a (fun p => zp_dp K p < zp_dp K k) s)) → wY_around_6 post (nI sz) yk yn ck cn co aw n (nI c) (zb_I s) := by
  intro n
  induction n with
  | zero => intro s c _ z; omega
  | succ n ih =>
    intro s c hs hn hc hp
    refine zb_if (zb_ltI0 (by omega)) (fun z => ?_) (fun z => ?_)
    · subst z; exact hp
    · obtain ⟨p, rfl⟩ : ∃ p, s = p + 1 := ⟨s - 1, by omega⟩
      rw [zb_Is]
      have k3 := h3 p (by omega)
      have l := zp_le (K := K) (p + 1)
      have cont : ¬ zp_dp K p < zp_dp K k → wY_around_25 post (wY_around_6 post (nI sz) yk yn ck cn co aw n) (nI c) (nI p) (nI sz) yk yn ck cn co aw := by
        intro hv
        rw [zl_f (P := fun p => zp_dp K p < zp_dp K k) hv] at hp
        refine ⟨zb_in (by omega), zb_if (zb_k 1 hC (by omega) (by omega) (by decide)) (fun a => ?_) (fun a => ⟨zb_in (by omega), zb_if (zb_k 0 hC (by omega) (by omega) (by decide)) (fun a0 => ?_) (fun a0 => ?_)⟩)⟩
        · have b1 := hB p (by omega) a
          have d1 := zp_d1 a
          exact nm_r (nI_1 c) (nm_r (zb_predm p) (ih p (c + 1) (by omega) (by omega) (by omega) hp))
        · have d0 := zp_d0 a0
          obtain ⟨c', rfl⟩ : ∃ c', c = c' + 1 := ⟨c - 1, by omega⟩
          exact nm_r (nI_pred c') (nm_r (zb_predm p) (ih p c' (by omega) (by omega) (by omega) hp))
        · have d2 := zp_d2 a0 a
          exact nm_r (zb_predm p) (ih p c (by omega) (by omega) (by omega) hp)
      refine ⟨zb_in (by omega), zb_if (zb_k 0 hC (by omega) (by omega) (by decide)) (fun a => zb_if (nI_eq (b := 0) (by omega) (by decide)) (fun c0 => ?_) (fun c0 => cont ?_)) (fun a => cont ?_)⟩
      · have d0 := zp_d0 a
        rw [zl_t (P := fun p => zp_dp K p < zp_dp K k) (p := p) (by show zp_dp K p < zp_dp K k; omega)] at hp
        exact hp
      · have d0 := zp_d0 a
        omega
      · rcases Classical.em (K p = 1) with a1 | a1
        · have b1 := hB p (by omega) a1
          have d1 := zp_d1 a1
          omega
        · have d2 := zp_d2 a a1
          omega
theorem zy_ar {post : Int32 → Prop} {k : Nat} (hk : k ≤ 28) (hC : zb_At ck K) (h3 : ∀ i, i < 28 → K i ≤ 3) (hB : zp_Bal K k) (h : post (zb_I (zp_bk K k))) : wpY_around post (nI sz, yk, yn, ck, cn, co, aw) (nI k) :=
  nm_r (zb_pred k) ⟨k + 1, zy_ar6 hk hC h3 hB (k + 1) k 0 (Nat.le_refl _) (by omega) (by omega) h⟩
theorem zy_la5 {post : Int32 → Prop} {t u nm : Nat} (hu : u ≤ 28) (ht : t ≤ 28) (hC : zb_At ck K) (hD : zb_At cn N) (h3 : ∀ i, i < 28 → K i ≤ 3) (h7 : ∀ i, i < 28 → N i ≤ 7) (hnm : nm < 128) (hB : zp_Bal K u) : ∀ n s, s ≤ u → s < n → post (zb_I (zl_a (zp_Q K N nm t) s)) → wY_last_5 post (zb_I t) (nI nm) (nI sz) yk yn ck cn co aw n (zb_I s) := by
  intro n
  induction n with
  | zero => intro s _ z; omega
  | succ n ih =>
    intro s hs hn hp
    refine zb_if (zb_leII (by omega) (by omega)) (fun z => ?_) (fun z => ?_)
    · rw [zl_eq (P := zp_Q K N nm t) (n := s) (s := 0) (Nat.zero_le _) (fun p e => by omega) (fun q _ b v => by have := v.1; omega)] at hp
      exact hp
    · obtain ⟨p, rfl⟩ : ∃ p, s = p + 1 := ⟨s - 1, by omega⟩
      rw [zb_Is]
      have k3 := h3 p (by omega)
      have n7 := h7 p (by omega)
      have lb := zp_bkl (K := K) (k := p)
      have cont : ¬ zp_Q K N nm t p → wY_last_5 post (zb_I t) (nI nm) (nI sz) yk yn ck cn co aw n (zb_I p) := by
        intro v
        rw [zl_f v] at hp
        exact ih p (by omega) (by omega) hp
      refine ⟨zb_in (by omega), zb_if (zb_k 2 hC (by omega) (by omega) (by decide)) (fun a => ⟨zb_in (by omega), zb_if (zb_k nm hD (by omega) (by omega) hnm) (fun b => ?_) (fun b => nm_r (zb_predm p) (cont (fun v => b v.2.2.1)))⟩) (fun a => nm_r (zb_predm p) (cont (fun v => a v.2.1)))⟩
      refine zy_ar (by omega) hC h3 (fun i hi => hB i (by omega)) (zb_if (zb_eqII (by omega) (by omega)) (fun e => ?_) (fun e => nm_r (zb_predm p) (cont (fun v => e v.2.2.2))))
      rw [zl_t (P := zp_Q K N nm t) (p := p) ⟨by omega, a, b, e⟩] at hp
      exact hp
theorem zy_la {post : Int32 → Prop} {t u nm : Nat} (hu : u ≤ 28) (ht : t ≤ 28) (hC : zb_At ck K) (hD : zb_At cn N) (h3 : ∀ i, i < 28 → K i ≤ 3) (h7 : ∀ i, i < 28 → N i ≤ 7) (hnm : nm < 128) (hB : zp_Bal K u) (h : post (zb_I (zl_a (zp_Q K N nm t) u))) : wpY_last post (nI sz, yk, yn, ck, cn, co, aw) (zb_I t) (nI u) (nI nm) :=
  nm_r (zb_pred u) ⟨u + 1, zy_la5 hu ht hC hD h3 h7 hnm hB (u + 1) u (Nat.le_refl _) (by omega) h⟩
theorem zy_bi9 {post : Int32 → Prop} {u nm : Nat} (hu : u < 28) (hC : zb_At ck K) (hD : zb_At cn N) (h3 : ∀ i, i < 28 → K i ≤ 3) (h7 : ∀ i, i < 28 → N i ≤ 7) (hnm : nm < 128) (hB : zp_Bal K u) (h : post (zb_I (zp_bd K N u nm))) : ∀ n l D t, l + D = zp_dp K u → D < n → zl_a (fun p => zp_dp K p < D) u = t → (∀ d, d < u → zp_V K N u nm d → zp_dp K d ≤ D) → wY_bind_9 post (nI u) (nI nm) (nI sz) yk yn ck cn co aw n (zb_I t) (nI l) := by
  intro n
  have lu := zp_le (K := K) u
  induction n with
  | zero => intro l D t _ z; omega
  | succ n ih =>
    intro l D t hl hn ht hv
    have tu : t ≤ u := by rw [← ht]; exact zl_le u
    have hD' : D ≤ zp_dp K u := by omega
    refine zb_if (nI_ltI (a := 28) (by decide) (by omega)) (fun z => by omega) (fun z => ?_)
    have lr := zl_le (P := zp_Q K N nm t) u
    refine zy_la (by omega) (by omega) hC hD h3 h7 hnm hB ?_
    refine zb_if (zb_le0I (by omega)) (fun z => ?_) (fun z => zb_if (zb_le0I (by omega)) (fun y => ?_) (fun y => ?_))
    · obtain ⟨p, ep⟩ : ∃ p, zl_a (zp_Q K N nm t) u = p + 1 := ⟨zl_a (zp_Q K N nm t) u - 1, by omega⟩
      rw [ep, ← zp_fnd hD' ht hv ep]
      exact h
    · obtain ⟨b, rfl⟩ : ∃ b, t = b + 1 := ⟨t - 1, by omega⟩
      obtain ⟨a1, a2, a3, a4⟩ := zp_lev hD' ht
      have hv' := zp_non hD' ht hv (by omega)
      refine zy_ar (k := b) (by omega) hC h3 (fun i hi => hB i (by omega)) (nm_r (nI_1 l) ?_)
      exact ih (l + 1) (D - 1) _ (by omega) (by omega) (zp_nxt hD' ht) (fun d hd v => by have := hv' d hd v; omega)
    · have t0 : t = 0 := by omega
      subst t0
      have d0 := zp_lev0 hD' ht
      have hv' := zp_non hD' ht hv (by omega)
      have r0 : zl_a (zp_Q K N nm 0) u = 0 := by omega
      have e : zp_bd K N u nm = 0 := zl_eq (Nat.zero_le _) (fun p e => by omega) (fun q _ b v => by have := hv' q b v; omega)
      rw [r0, ← e]
      exact h
theorem zy_bi {post : Int32 → Prop} {u nm : Nat} (hu : u < 28) (hC : zb_At ck K) (hD : zb_At cn N) (h3 : ∀ i, i < 28 → K i ≤ 3) (h7 : ∀ i, i < 28 → N i ≤ 7) (hnm : nm < 128) (hB : zp_Bal K u) (h : post (zb_I (zp_bd K N u nm))) : wpY_bind post (nI sz, yk, yn, ck, cn, co, aw) (nI u) (nI nm) := by
  unfold wpY_bind
  refine zy_ar (by omega) hC h3 hB ⟨zp_dp K u + 1, ?_⟩
  exact zy_bi9 hu hC hD h3 h7 hnm hB h (zp_dp K u + 1) 0 (zp_dp K u) _ (by omega) (by omega) rfl (fun d hd v => v.2.2 u (by omega) (Nat.le_refl _))
theorem zy_cp2 {post : SY → Prop} (hK : zb_At yk K) (hN : zb_At yn N) (h : ∀ ck cn co, zb_At ck K → zb_At cn N → zb_At co (fun i => i) → post (nI sz, yk, yn, ck, cn, co, aw)) : ∀ n i ck cn co, i ≤ 28 → 28 - i < n → (∀ j, j < i → ck j = nI (K j) ∧ cn j = nI (N j) ∧ co j = nI j) → wY_copy_2 post (nI sz) n (nI i) yk yn ck cn co aw := by
  intro n
  induction n with
  | zero => intro i _ _ _ _ z; omega
  | succ n ih =>
    intro i ck cn co hi hn hj
    refine zb_if (nI_leI (a := 28) (by decide) (by omega)) (fun z => ?_) (fun z => ?_)
    · exact h ck cn co (fun j hj' => (hj j (by omega)).1) (fun j hj' => (hj j (by omega)).2.1) (fun j hj' => (hj j (by omega)).2.2)
    · have w := ih (i + 1) (upd ck i (nI (K i))) (upd cn i (nI (N i))) (upd co i (nI i)) (by omega) (by omega) (fun j hj' => by
        rcases Classical.em (j = i) with e | e
        · subst e; exact ⟨pk_us, pk_us, pk_us⟩
        · rw [pk_un e, pk_un e, pk_un e]; exact hj j (by omega))
      have hin : vp_in (nI i) 28 := zb_in (by omega)
      exact ⟨hin, hin, nm_r (e' := upd ck i (nI (K i))) (by rw [zb_rd hK (by omega), zb_c (by omega)]) ⟨hin, hin, nm_r (e' := upd cn i (nI (N i))) (by rw [zb_rd hN (by omega), zb_c (by omega)]) ⟨hin, nm_r (e' := upd co i (nI i)) (by rw [zb_c (by omega)]) (nm_r (nI_1 _) w)⟩⟩⟩
theorem zy_cp {post : SY → Prop} (hK : zb_At yk K) (hN : zb_At yn N) (h : ∀ ck cn co, zb_At ck K → zb_At cn N → zb_At co (fun i => i) → post (nI sz, yk, yn, ck, cn, co, aw)) : wpY_copy post (nI sz, yk, yn, ck, cn, co, aw) :=
  ⟨29, zy_cp2 hK hN h 29 0 ck cn co (by omega) (by omega) (fun j hj => absurd hj (Nat.not_lt_zero j))⟩
theorem zy_ba6 {post : SY → Prop} (hO : zp_Ok K N sz) (hC : zb_At ck K) (hD : zb_At cn N) (h : ∀ aw, (∀ k, k < sz → aw k = zb_I (zp_B K N k)) → post (nI sz, yk, yn, ck, cn, co, aw)) : ∀ n i aw, i ≤ sz → sz - i < n → (∀ k, k < i → aw k = zb_I (zp_B K N k)) → wY_bindAll_6 post (nI sz) n (nI i) yk yn ck cn co aw := by
  intro n
  have hs := hO.1
  induction n with
  | zero => intro i _ _ z; omega
  | succ n ih =>
    intro i aw hi hn hT
    refine zb_if (nI_leI (by omega) (by omega)) (fun z => ?_) (fun z => ⟨zb_in (by omega), ?_⟩)
    · have : i = sz := by omega
      subst this; exact h _ hT
    · have k3 := hO.2.1 i (by omega)
      have n7 := hO.2.2.1 i (by omega)
      have w := ih (i + 1) (upd aw i (zb_I (zp_B K N i))) (by omega) (by omega) (fun k hk => by
        rcases Classical.em (k = i) with e | e
        · subst e; exact pk_us
        · rw [pk_un e]; exact hT k (by omega))
      refine zb_if (zb_k 3 hC (by omega) (by omega) (by decide)) (fun a => ⟨zb_in (by omega), ?_⟩) (fun a => ⟨zb_in (by omega), ?_⟩)
      · rw [zb_rd hD (by omega)]
        refine zy_bi (by omega) hC hD hO.2.1 hO.2.2.1 (by omega) (fun j hj => hO.2.2.2 j (by omega)) ⟨zb_in (by omega), ?_⟩
        rw [← zp_Bu a]
        exact nm_r (e' := upd aw i (zb_I (zp_B K N i))) (by rw [zb_c (by omega)]) (nm_r (nI_1 _) w)
      · rw [zp_Bz a] at w
        exact nm_r (e' := upd aw i (zb_I 0)) (by rw [zb_c (by omega), ← zb_I0]) (nm_r (nI_1 _) w)
theorem zy_ba {post : SY → Prop} (hO : zp_Ok K N sz) (hK : zb_At yk K) (hN : zb_At yn N) (h : ∀ ck cn co aw, zb_At ck K → zb_At cn N → zb_At co (fun i => i) → (∀ k, k < sz → aw k = zb_I (zp_B K N k)) → post (nI sz, yk, yn, ck, cn, co, aw)) : wpY_bindAll post (nI sz, yk, yn, ck, cn, co, aw) := by
  unfold wpY_bindAll
  refine zy_cp hK hN (fun ck cn co hC hD hE => ⟨sz + 1, ?_⟩)
  exact zy_ba6 hO hC hD (fun aw hW => h ck cn co aw hC hD hE hW) (sz + 1) 0 aw (by omega) (by omega) (fun k hk => absurd hk (Nat.not_lt_zero k))
theorem zy_63 {post : Int32 → Prop} {J : Int32 → Int32 → Prop} {i a c : Nat} (ha : a < 128) (hc : c < 128) (h1 : c = a → J 1 (nI (i + 1))) (h0 : c ≠ a → J 0 (nI (i + 1))) : wY_legal_63 post J (nI i) (zb_I a) (zb_I c) (nI sz) yk yn ck cn co aw :=
  zb_if (zb_eqII (by omega) (by omega)) (fun e => nm_r (nI_1 _) (h1 e)) (fun e => nm_r (nI_1 _) (h0 e))
theorem zy_lg4 {post : Int32 → Prop} (hO : zp_Ok K1 N1 sz) (hC : zb_At ck K1) (hD : zb_At cn N1) (hE : zb_At co O) (hOs : ∀ i, i < sz → O i < sz) (hW : ∀ i, i < sz → aw i = zb_I (W i)) (hWb : ∀ i, i < sz → W i ≤ 28) (h1 : zp_Lg K1 N1 O W sz → post 1) (h0 : ¬ zp_Lg K1 N1 O W sz → post 0) : ∀ n i x, i ≤ sz → sz - i < n → ((x = 1 ∧ zp_Lg K1 N1 O W i) ∨ (x = 0 ∧ ¬ zp_Lg K1 N1 O W i)) → wY_legal_4 post (nI sz) yk yn ck cn co aw n x (nI i) := by
  intro n
  have hs := hO.1
  induction n with
  | zero => intro i _ _ z; omega
  | succ n ih =>
    intro i x hi hn hx
    refine zb_if (nI_leI (by omega) (by omega)) (fun z => ?_) (fun z => ⟨zb_in (by omega), ?_⟩)
    · have : i = sz := by omega
      subst this
      rcases hx with ⟨e, hx⟩ | ⟨e, hx⟩
      · subst e; exact ⟨narrow_b1, h1 hx⟩
      · subst e; exact ⟨narrow_b0, h0 hx⟩
    · have k3 := hO.2.1 i (by omega)
      have n7 := hO.2.2.1 i (by omega)
      have dn : zp_Lg K1 N1 O W (i + 1) → zp_Lg K1 N1 O W i := fun h q hq => h q (by omega)
      refine zb_if (zb_k 3 hC (by omega) (by omega) (by decide)) (fun a => ⟨zb_in (by omega), ?_⟩) (fun a => nm_r (nI_1 _) (ih (i + 1) x (by omega) (by omega) ?_))
      · rw [zb_rd hD (by omega)]
        have up : zp_Lg K1 N1 O W i → W (O i) = zp_om O (zp_bd K1 N1 i (N1 i)) → zp_Lg K1 N1 O W (i + 1) := fun h e q hq h3 => by
          rcases Nat.lt_or_ge q i with y | y
          · exact h q y h3
          · have : q = i := by omega
            subst this; exact e
        have lb := zp_bdl (K := K1) (N := N1) (u := i) (n := N1 i)
        have oi := hOs i (by omega)
        have wi := hWb (O i) oi
        refine zy_bi (by omega) hC hD hO.2.1 hO.2.2.1 (by omega) (fun j hj => hO.2.2.2 j (by omega)) ?_
        rcases hx with ⟨e, hx⟩ | ⟨e, hx⟩
        · subst e
          refine br_f zx_10 ⟨zb_in (by omega), ?_⟩
          have r1 : co (nI i).toNatClampNeg = nI (O i) := zb_rd hE (by omega)
          have r2 : aw (nI (O i)).toNatClampNeg = zb_I (W (O i)) := by rw [zb_c (by omega), hW _ oi]
          rw [r1, r2]
          refine ⟨zb_in (by omega), zb_if (zb_le0I (by omega)) (fun y => ?_) (fun y => ?_)⟩
          · obtain ⟨p, ep⟩ : ∃ p, zp_bd K1 N1 i (N1 i) = p + 1 := ⟨zp_bd K1 N1 i (N1 i) - 1, by omega⟩
            have op := hOs p (by omega)
            rw [ep, zb_Is, zb_rd hE (by omega), ← zb_Is]
            rw [ep] at up
            exact ⟨zb_in (by omega), zy_63 (a := O p + 1) (by omega) (by omega) (fun e => ih (i + 1) 1 (by omega) (by omega) (Or.inl ⟨rfl, up hx e⟩)) (fun e => ih (i + 1) 0 (by omega) (by omega) (Or.inr ⟨rfl, fun h => e (by have := h i (by omega) a; rw [ep] at this; exact this)⟩))⟩
          · have ep : zp_bd K1 N1 i (N1 i) = 0 := by omega
            rw [ep] at up
            exact zy_63 (a := 0) (by omega) (by omega) (fun e => ih (i + 1) 1 (by omega) (by omega) (Or.inl ⟨rfl, up hx e⟩)) (fun e => ih (i + 1) 0 (by omega) (by omega) (Or.inr ⟨rfl, fun h => e (by have := h i (by omega) a; rw [ep] at this; exact this)⟩))
        · subst e
          exact br_t rfl (nm_r (nI_1 _) (ih (i + 1) 0 (by omega) (by omega) (Or.inr ⟨rfl, fun h => hx (dn h)⟩)))
      · have up : zp_Lg K1 N1 O W i → zp_Lg K1 N1 O W (i + 1) := fun h q hq h3 => by
          rcases Nat.lt_or_ge q i with y | y
          · exact h q y h3
          · have : q = i := by omega
            subst this; exact absurd h3 a
        rcases hx with ⟨e, hx⟩ | ⟨e, hx⟩
        · exact Or.inl ⟨e, up hx⟩
        · exact Or.inr ⟨e, fun h => hx (dn h)⟩
theorem zy_lg {post : Int32 → Prop} (hO : zp_Ok K1 N1 sz) (hC : zb_At ck K1) (hD : zb_At cn N1) (hE : zb_At co O) (hOs : ∀ i, i < sz → O i < sz) (hW : ∀ i, i < sz → aw i = zb_I (W i)) (hWb : ∀ i, i < sz → W i ≤ 28) (h1 : zp_Lg K1 N1 O W sz → post 1) (h0 : ¬ zp_Lg K1 N1 O W sz → post 0) : wpY_legal post (nI sz, yk, yn, ck, cn, co, aw) :=
  ⟨sz + 1, zy_lg4 hO hC hD hE hOs hW hWb h1 h0 (sz + 1) 0 1 (by omega) (by omega) (Or.inl ⟨rfl, fun q hq => absurd hq (Nat.not_lt_zero q)⟩)⟩
theorem zy_ac2 {post : SY → Prop} (hs : sz ≤ 28) (hC : zb_At ck K1) (hD : zb_At cn N1) (h : ∀ yk yn, zb_At yk K1 → zb_At yn N1 → post (nI sz, yk, yn, ck, cn, co, aw)) : ∀ n i yk yn, i ≤ sz → sz - i < n → (∀ j, j < 28 → j < i ∨ sz ≤ j → yk j = nI (K1 j) ∧ yn j = nI (N1 j)) → wY_accept_2 post (nI sz) n (nI i) yk yn ck cn co aw := by
  intro n
  induction n with
  | zero => intro i _ _ _ z; omega
  | succ n ih =>
    intro i yk yn hi hn hj
    refine zb_if (nI_leI (by omega) (by omega)) (fun z => ?_) (fun z => ?_)
    · exact h yk yn (fun j hj' => (hj j hj' (by omega)).1) (fun j hj' => (hj j hj' (by omega)).2)
    · have w := ih (i + 1) (upd yk i (nI (K1 i))) (upd yn i (nI (N1 i))) (by omega) (by omega) (fun j hj' hc => by
        rcases Classical.em (j = i) with e | e
        · subst e; exact ⟨pk_us, pk_us⟩
        · rw [pk_un e, pk_un e]; exact hj j hj' (by omega))
      have hin : vp_in (nI i) 28 := zb_in (by omega)
      exact ⟨hin, hin, nm_r (e' := upd yk i (nI (K1 i))) (by rw [zb_rd hC (by omega), zb_c (by omega)]) ⟨hin, hin, nm_r (e' := upd yn i (nI (N1 i))) (by rw [zb_rd hD (by omega), zb_c (by omega)]) (nm_r (nI_1 _) w)⟩⟩
theorem zy_ac {post : SY → Prop} (hs : sz ≤ 28) (hC : zb_At ck K1) (hD : zb_At cn N1) (hK : zb_At yk K) (hN : zb_At yn N) (he : ∀ j, j < 28 → sz ≤ j → K j = K1 j ∧ N j = N1 j) (h : ∀ yk yn, zb_At yk K1 → zb_At yn N1 → post (nI sz, yk, yn, ck, cn, co, aw)) : wpY_accept post (nI sz, yk, yn, ck, cn, co, aw) :=
  ⟨sz + 1, zy_ac2 hs hC hD h (sz + 1) 0 yk yn (by omega) (by omega) (fun j hj hc => by
    have e := he j hj (by omega)
    rw [hK j hj, hN j hj, e.1, e.2]
    exact ⟨rfl, rfl⟩)⟩
theorem zy_pl {post : SY → Prop} {a b : Nat} (ha : a < 28) (hb : b < 28) (hK : zb_At yk K) (hN : zb_At yn N) (h : post (nI sz, yk, yn, upd ck b (nI (K a)), upd cn b (nI (N a)), upd co b (nI a), aw)) : wpY_place post (nI sz, yk, yn, ck, cn, co, aw) (nI a) (nI b) :=
  ⟨zb_in ha, zb_in hb, nm_r (e' := upd ck b (nI (K a))) (by rw [zb_rd hK ha, zb_c hb]) ⟨zb_in ha, zb_in hb, nm_r (e' := upd cn b (nI (N a))) (by rw [zb_rd hN ha, zb_c hb]) ⟨zb_in hb, nm_r (e' := upd co b (nI a)) (by rw [zb_c hb]) h⟩⟩⟩
end
end
section
/-! the component: methods that look -/
noncomputable def zr_c (P : Nat → Prop) : Nat → Nat
  | 0 => 0
  | i + 1 => @ite Nat (P i) (Classical.propDecidable _) (zr_c P i + 1) (zr_c P i)
theorem zr_ct {P : Nat → Prop} {i : Nat} (h : P i) : zr_c P (i + 1) = zr_c P i + 1 := by rw [zr_c, if_pos h]
theorem zr_cf {P : Nat → Prop} {i : Nat} (h : ¬ P i) : zr_c P (i + 1) = zr_c P i := by rw [zr_c, if_neg h]
section
variable {K N : Nat → Nat} {sz : Nat} {kn : Int32} {xk xn xb xd xe xt xo : Nat → Int32}
theorem zx_tok1 {post : Int32 → Prop} {j : Nat} (hO : zp_Ok K N sz) (hK : zb_At xk K) (hN : zb_At xn N) (hj : j < sz) (h : post (nI (K j) + 4 * nI (N j))) : wpX_token post (nI sz, kn, xk, xn, xb, xd, xe, xt, xo) (nI j) := by
  have hs := hO.1
  unfold wpX_token
  refine zx_isP1 hs hj (br_f zx_10 ⟨zb_in (by omega), zb_in (by omega), ?_⟩)
  rw [zb_rd hK (by omega), zb_rd hN (by omega)]
  exact h
theorem zx_tok0 {post : Int32 → Prop} {p : Int32} (hp : p < 0 ∨ nI sz ≤ p) (h : post (-1)) : wpX_token post (nI sz, kn, xk, xn, xb, xd, xe, xt, xo) p := by
  unfold wpX_token
  exact zx_isP0 hp (br_t rfl h)
theorem zx_bd1 {post : Int32 → SX → Prop} {j : Nat} (hO : zp_Ok K N sz) (hK : zb_At xk K) (hN : zb_At xn N) (hkn : kn = 0 ∨ (kn = 1 ∧ zx_Kn K N sz xb xd xe xt)) (hj : j < sz) (e : K j = 3) (h : ∀ xb xd xe xt xo, zx_Kn K N sz xb xd xe xt → post (zb_I (zp_B K N j)) (nI sz, 1, xk, xn, xb, xd, xe, xt, xo)) : wpX_bound post (nI sz, kn, xk, xn, xb, xd, xe, xt, xo) (nI j) := by
  have hs := hO.1
  unfold wpX_bound
  refine zx_isA1 3 hs hK hj (by decide) e (br_f zx_10 ?_)
  refine zx_learn hO hK hN hkn (fun xb xd xe xt xo hk => ⟨zb_in (by omega), ?_⟩)
  rw [zb_rdI (by omega) (hk.2 j hj)]
  exact h _ _ _ _ _ hk
theorem zx_bd0 {post : Int32 → SX → Prop} {j : Nat} (hO : zp_Ok K N sz) (hK : zb_At xk K) (hN : zb_At xn N) (hj : j < sz) (e : K j ≠ 3) (h : post (-1) (nI sz, kn, xk, xn, xb, xd, xe, xt, xo)) : wpX_bound post (nI sz, kn, xk, xn, xb, xd, xe, xt, xo) (nI j) := by
  unfold wpX_bound
  exact zx_isA0 3 hO.1 hK hO.2.1 hj (by decide) e (br_t rfl h)
theorem zx_bdb {post : Int32 → SX → Prop} {p : Int32} (hp : p < 0 ∨ nI sz ≤ p) (h : post (-1) (nI sz, kn, xk, xn, xb, xd, xe, xt, xo)) : wpX_bound post (nI sz, kn, xk, xn, xb, xd, xe, xt, xo) p := by
  unfold wpX_bound
  exact zx_isAb hp (br_t rfl h)
theorem zx_us19 {post : Int32 → SX → Prop} {k : Nat} (hs : sz ≤ 28) (hk : k < sz) (hT : ∀ u, u < sz → xt u = zb_I (zp_B K N u)) (h : post (zb_S (fun u => zp_B K N u = k + 1) sz) (nI sz, kn, xk, xn, xb, xd, xe, xt, xo)) : ∀ n i, i ≤ sz → sz - i < n → wX_uses_19 post (nI k) (nI sz) kn xk xn xb xd xe xt xo n (zb_S (fun u => zp_B K N u = k + 1) i) (nI i) := by
  intro n
  induction n with
  | zero => intro i _ z; omega
  | succ n ih =>
    intro i hi hn
    refine zb_if (nI_leI (by omega) (by omega)) (fun z => ?_) (fun z => ⟨zb_in (by omega), ?_⟩)
    · have : i = sz := by omega
      subst this; exact h
    · have w := ih (i + 1) (by omega) (by omega)
      have lB := zp_Bl (K := K) (N := N) (u := i)
      rw [zb_rdI (by omega) (hT i (by omega))]
      refine zb_if (zb_eqIN (by omega) (by omega)) (fun e => ?_) (fun e => ?_)
      · rw [zb_St (P := fun u => zp_B K N u = k + 1) e] at w
        exact nm_e (nm_r (nI_1 _) w)
      · rw [zb_Sf (P := fun u => zp_B K N u = k + 1) e] at w
        exact nm_r Int32.or_zero (nm_r (nI_1 _) w)
theorem zx_us {post : Int32 → SX → Prop} {k : Nat} (hO : zp_Ok K N sz) (hK : zb_At xk K) (hN : zb_At xn N) (hkn : kn = 0 ∨ (kn = 1 ∧ zx_Kn K N sz xb xd xe xt)) (hk : k < sz) (e : K k = 2) (h : ∀ xb xd xe xt xo, zx_Kn K N sz xb xd xe xt → post (zb_S (fun u => zp_B K N u = k + 1) sz) (nI sz, 1, xk, xn, xb, xd, xe, xt, xo)) : wpX_uses post (nI sz, kn, xk, xn, xb, xd, xe, xt, xo) (nI k) := by
  unfold wpX_uses
  refine zx_isA1 2 hO.1 hK hk (by decide) e (br_f zx_10 ?_)
  refine zx_learn hO hK hN hkn (fun xb xd xe xt xo hk' => ⟨sz + 1, ?_⟩)
  exact zx_us19 hO.1 hk hk'.2 (h _ _ _ _ _ hk') (sz + 1) 0 (by omega) (by omega)
theorem zx_us0 {post : Int32 → SX → Prop} {k : Nat} (hO : zp_Ok K N sz) (hK : zb_At xk K) (hN : zb_At xn N) (hk : k < sz) (e : K k ≠ 2) (h : post 0 (nI sz, kn, xk, xn, xb, xd, xe, xt, xo)) : wpX_uses post (nI sz, kn, xk, xn, xb, xd, xe, xt, xo) (nI k) := by
  unfold wpX_uses
  exact zx_isA0 2 hO.1 hK hO.2.1 hk (by decide) e (br_t rfl h)
theorem zx_usb {post : Int32 → SX → Prop} {p : Int32} (hp : p < 0 ∨ nI sz ≤ p) (h : post 0 (nI sz, kn, xk, xn, xb, xd, xe, xt, xo)) : wpX_uses post (nI sz, kn, xk, xn, xb, xd, xe, xt, xo) p := by
  unfold wpX_uses
  exact zx_isAb hp (br_t rfl h)
theorem zx_fr8 {post : Int32 → SX → Prop} (hO : zp_Ok K N sz) (hK : zb_At xk K) (hN : zb_At xn N) (hT : ∀ u, u < sz → xt u = zb_I (zp_B K N u)) (h : post (zb_S (fun u => K u = 3 ∧ zp_B K N u = 0) sz) (nI sz, kn, xk, xn, xb, xd, xe, xt, xo)) : ∀ n i, i ≤ sz → sz - i < n → wX_free_8 post (nI sz) kn xk xn xb xd xe xt xo n (zb_S (fun u => K u = 3 ∧ zp_B K N u = 0) i) (nI i) := by
  intro n
  have hs := hO.1
  induction n with
  | zero => intro i _ z; omega
  | succ n ih =>
    intro i hi hn
    refine zb_if (nI_leI (by omega) (by omega)) (fun z => ?_) (fun z => ⟨zb_in (by omega), ?_⟩)
    · have : i = sz := by omega
      subst this; exact h
    · have w := ih (i + 1) (by omega) (by omega)
      have k3 := hO.2.1 i (by omega)
      have lB := zp_Bl (K := K) (N := N) (u := i)
      rw [zb_rdI (by omega) (hT i (by omega))]
      have hno : ¬ (K i = 3 ∧ zp_B K N i = 0) → wX_free_8 post (nI sz) kn xk xn xb xd xe xt xo n (zb_S (fun u => K u = 3 ∧ zp_B K N u = 0) i) (nI (i + 1)) := by
        intro e
        rw [zb_Sf (P := fun u => K u = 3 ∧ zp_B K N u = 0) e] at w
        exact w
      refine zb_if (zb_k 3 hK (by omega) (by omega) (by decide)) (fun a => ⟨zb_in (by omega), zb_if (zb_le0I (by omega)) (fun b => ?_) (fun b => ?_)⟩) (fun a => ?_)
      · exact nm_r Int32.or_zero (nm_r (nI_1 _) (hno (fun e => by omega)))
      · rw [zb_St (P := fun u => K u = 3 ∧ zp_B K N u = 0) ⟨a, by omega⟩] at w
        exact nm_e (nm_r (nI_1 _) w)
      · exact nm_r Int32.or_zero (nm_r (nI_1 _) (hno (fun e => a e.1)))
theorem zx_fr {post : Int32 → SX → Prop} (hO : zp_Ok K N sz) (hK : zb_At xk K) (hN : zb_At xn N) (hkn : kn = 0 ∨ (kn = 1 ∧ zx_Kn K N sz xb xd xe xt)) (h : ∀ xb xd xe xt xo, zx_Kn K N sz xb xd xe xt → post (zb_S (fun u => K u = 3 ∧ zp_B K N u = 0) sz) (nI sz, 1, xk, xn, xb, xd, xe, xt, xo)) : wpX_free post (nI sz, kn, xk, xn, xb, xd, xe, xt, xo) := by
  unfold wpX_free
  refine zx_learn hO hK hN hkn (fun xb xd xe xt xo hk' => ⟨sz + 1, ?_⟩)
  exact zx_fr8 hO hK hN hk'.2 (h _ _ _ _ _ hk') (sz + 1) 0 (by omega) (by omega)
theorem zx_un4 {post : Int32 → SX → Prop} (hO : zp_Ok K N sz) (hK : zb_At xk K) (hN : zb_At xn N) (h : ∀ kn xb xd xe xt xo, (kn = 0 ∨ (kn = 1 ∧ zx_Kn K N sz xb xd xe xt)) → post (zb_S (fun k => K k = 2 ∧ (zb_S (fun u => zp_B K N u = k + 1) sz) = 0) sz) (nI sz, kn, xk, xn, xb, xd, xe, xt, xo)) : ∀ n i kn xb xd xe xt xo, i ≤ sz → sz - i < n → (kn = 0 ∨ (kn = 1 ∧ zx_Kn K N sz xb xd xe xt)) → wX_unused_4 post n (zb_S (fun k => K k = 2 ∧ (zb_S (fun u => zp_B K N u = k + 1) sz) = 0) i) (nI i) (nI sz) kn xk xn xb xd xe xt xo := by
  intro n
  have hs := hO.1
  induction n with
  | zero => intro i _ _ _ _ _ _ _ z; omega
  | succ n ih =>
    intro i kn xb xd xe xt xo hi hn hkn
    refine zb_if (nI_leI (by omega) (by omega)) (fun z => ?_) (fun z => ⟨zb_in (by omega), ?_⟩)
    · have : i = sz := by omega
      subst this; exact h _ _ _ _ _ _ hkn
    · have k3 := hO.2.1 i (by omega)
      refine zb_if (zb_k 2 hK (by omega) (by omega) (by decide)) (fun a => ?_) (fun a => ?_)
      · refine zx_us hO hK hN hkn (by omega) a (fun xb xd xe xt xo hk => ?_)
        have w := ih (i + 1) 1 xb xd xe xt xo (by omega) (by omega) (Or.inr ⟨rfl, hk⟩)
        refine zb_if Iff.rfl (fun e => ?_) (fun e => ?_)
        · rw [zb_St (P := fun k => K k = 2 ∧ (zb_S (fun u => zp_B K N u = k + 1) sz) = 0) ⟨a, e⟩] at w
          exact nm_e (nm_r (nI_1 _) w)
        · rw [zb_Sf (P := fun k => K k = 2 ∧ (zb_S (fun u => zp_B K N u = k + 1) sz) = 0) (fun v => e v.2)] at w
          exact nm_r Int32.or_zero (nm_r (nI_1 _) w)
      · have w := ih (i + 1) kn xb xd xe xt xo (by omega) (by omega) hkn
        rw [zb_Sf (P := fun k => K k = 2 ∧ (zb_S (fun u => zp_B K N u = k + 1) sz) = 0) (fun v => a v.1)] at w
        exact nm_r Int32.or_zero (nm_r (nI_1 _) w)
theorem zx_un {post : Int32 → SX → Prop} (hO : zp_Ok K N sz) (hK : zb_At xk K) (hN : zb_At xn N) (hkn : kn = 0 ∨ (kn = 1 ∧ zx_Kn K N sz xb xd xe xt)) (h : ∀ kn xb xd xe xt xo, (kn = 0 ∨ (kn = 1 ∧ zx_Kn K N sz xb xd xe xt)) → post (zb_S (fun k => K k = 2 ∧ (zb_S (fun u => zp_B K N u = k + 1) sz) = 0) sz) (nI sz, kn, xk, xn, xb, xd, xe, xt, xo)) : wpX_unused post (nI sz, kn, xk, xn, xb, xd, xe, xt, xo) :=
  ⟨sz + 1, zx_un4 hO hK hN h (sz + 1) 0 kn xb xd xe xt xo (by omega) (by omega) hkn⟩
theorem zx_dep {post : Int32 → SX → Prop} {j : Nat} (hO : zp_Ok K N sz) (hK : zb_At xk K) (hN : zb_At xn N) (hkn : kn = 0 ∨ (kn = 1 ∧ zx_Kn K N sz xb xd xe xt)) (hj : j < sz) (h : ∀ xb xd xe xt xo, zx_Kn K N sz xb xd xe xt → post (nI (zp_dp K j)) (nI sz, 1, xk, xn, xb, xd, xe, xt, xo)) : wpX_depth post (nI sz, kn, xk, xn, xb, xd, xe, xt, xo) (nI j) := by
  have hs := hO.1
  unfold wpX_depth
  refine zx_isP1 hs hj (br_f zx_10 ?_)
  refine zx_learn hO hK hN hkn (fun xb xd xe xt xo hk => ⟨zb_in (by omega), ?_⟩)
  have r : xd (nI j).toNatClampNeg = nI (zp_dp K j) := by rw [zb_c (by omega), (hk.1 j hj).2.1]
  rw [r]
  exact h _ _ _ _ _ hk
theorem zx_depb {post : Int32 → SX → Prop} {p : Int32} (hp : p < 0 ∨ nI sz ≤ p) (h : post (-1) (nI sz, kn, xk, xn, xb, xd, xe, xt, xo)) : wpX_depth post (nI sz, kn, xk, xn, xb, xd, xe, xt, xo) p := by
  unfold wpX_depth
  exact zx_isP0 hp (br_t rfl h)
theorem zx_vi18 {post : Int32 → SX → Prop} {j : Nat} (hO : zp_Ok K N sz) (hK : zb_At xk K) (hN : zb_At xn N) (hb : zx_Bl K sz xb xd xe) (hj : j < sz) (h : post (zb_S (fun n => zp_bd K N j n ≠ 0) 8) (nI sz, kn, xk, xn, xb, xd, xe, xt, xo)) : ∀ n i, i ≤ 8 → 8 - i < n → wX_visible_18 post (nI j) (nI sz) kn xk xn xb xd xe xt xo n (zb_S (fun n => zp_bd K N j n ≠ 0) i) (nI i) := by
  intro n
  have hs := hO.1
  induction n with
  | zero => intro i _ z; omega
  | succ n ih =>
    intro i hi hn
    refine zb_if (nI_leI (a := 8) (by decide) (by omega)) (fun z => ?_) (fun z => ?_)
    · have : i = 8 := by omega
      subst this; exact h
    · have w := ih (i + 1) (by omega) (by omega)
      have lb := zp_bdl (K := K) (N := N) (u := j) (n := i)
      refine zx_win hO hK hN hb (by omega) hj ?_
      refine zb_if (zb_ltI0 (by omega)) (fun e => ?_) (fun e => ?_)
      · rw [zb_Sf (P := fun n => zp_bd K N j n ≠ 0) (fun v => v e)] at w
        exact nm_r Int32.or_zero (nm_r (nI_1 _) w)
      · rw [zb_St (P := fun n => zp_bd K N j n ≠ 0) e] at w
        exact nm_e (nm_r (nI_1 _) w)
theorem zx_vi {post : Int32 → SX → Prop} {j : Nat} (hO : zp_Ok K N sz) (hK : zb_At xk K) (hN : zb_At xn N) (hkn : kn = 0 ∨ (kn = 1 ∧ zx_Kn K N sz xb xd xe xt)) (hj : j < sz) (h : ∀ xb xd xe xt xo, zx_Kn K N sz xb xd xe xt → post (zb_S (fun n => zp_bd K N j n ≠ 0) 8) (nI sz, 1, xk, xn, xb, xd, xe, xt, xo)) : wpX_visible post (nI sz, kn, xk, xn, xb, xd, xe, xt, xo) (nI j) := by
  unfold wpX_visible
  refine zx_isP1 hO.1 hj (br_f zx_10 ?_)
  refine zx_learn hO hK hN hkn (fun xb xd xe xt xo hk => ⟨9, ?_⟩)
  exact zx_vi18 hO hK hN hk.1 hj (h _ _ _ _ _ hk) 9 0 (by omega) (by omega)
theorem zx_vib {post : Int32 → SX → Prop} {p : Int32} (hp : p < 0 ∨ nI sz ≤ p) (h : post 0 (nI sz, kn, xk, xn, xb, xd, xe, xt, xo)) : wpX_visible post (nI sz, kn, xk, xn, xb, xd, xe, xt, xo) p := by
  unfold wpX_visible
  exact zx_isP0 hp (br_t rfl h)
end
end
section
/-! the component: renaming -/
def zr_M (i : Nat) (f g : Nat → Nat) (j : Nat) : Nat := if j < i then f j else g j
theorem zr_Mt {i j : Nat} {f g : Nat → Nat} (h : j < i) : zr_M i f g j = f j := if_pos h
theorem zr_Mf {i j : Nat} {f g : Nat → Nat} (h : ¬ j < i) : zr_M i f g j = g j := if_neg h
section
variable {K N : Nat → Nat} {sz : Nat} {kn : Int32} {xk xn xb xd xe xt xo : Nat → Int32}
theorem zx_ln16 {post : Int32 → Prop} {k m : Nat} (hO : zp_Ok K N sz) (hK : zb_At xk K) (hN : zb_At xn N) (hk' : zx_Kn K N sz xb xd xe xt) (hk : k < sz) (eK : K k = 2) (hm : m ≤ 7) (hne : m ≠ N k) (h1 : zp_Lg K (zn_N K N sz k m) (fun i => i) (zp_B K N) sz → post 1) (h0 : ¬ zp_Lg K (zn_N K N sz k m) (fun i => i) (zp_B K N) sz → post 0) : ∀ n i, k < i → i ≤ sz → sz - i < n → (∀ u, k < u → u < i → zn_ok K N k m u) → wX_legalName_16 post (nI k) (nI m) (nI sz) kn xk xn xb xd xe xt xo n (nI i) := by
  intro n
  have hs := hO.1
  have hl := zn_law (K := K) (N := N) hk eK hne
  induction n with
  | zero => intro i _ _ z; omega
  | succ n ih =>
    intro i ki hi hn hu
    refine zb_if (nI_leI (by omega) (by omega)) (fun z => ?_) (fun z => ⟨zb_in (by omega), ?_⟩)
    · have : i = sz := by omega
      subst this
      exact h1 (hl.mpr hu)
    · have k3 := hO.2.1 i (by omega)
      have n7 := hO.2.2.1 i (by omega)
      have lB := zp_Bl (K := K) (N := N) (u := i)
      have nx : zn_ok K N k m i → wX_legalName_16 post (nI k) (nI m) (nI sz) kn xk xn xb xd xe xt xo n (nI (i + 1)) := fun o => ih (i + 1) (by omega) (by omega) (by omega) (fun u a b => by
        rcases Nat.lt_or_ge u i with y | y
        · exact hu u a y
        · have : u = i := by omega
          subst this; exact o)
      have no : ¬ zn_ok K N k m i → post 0 := fun o => h0 (fun g => o (hl.mp g i ki (by omega)))
      rw [zb_rdI (by omega) (hk'.2 i (by omega))]
      refine zb_if (zb_eqIN (by omega) (by omega)) (fun e => ?_) (fun e => ⟨zb_in (by omega), ?_⟩)
      · have lb := zp_bdl (K := K) (N := N) (u := i) (n := m)
        obtain ⟨_, _, vk⟩ := zp_Bs e
        refine zx_win hO hK hN hk'.1 (by omega) (by omega) (zb_if (zb_ltI0 (by omega)) (fun y => ?_) (fun y => ?_))
        · exact nm_r (nI_1 _) (nx ⟨fun _ => by omega, fun w => absurd e w⟩)
        · obtain ⟨o, eo⟩ : ∃ o, zp_bd K N i m = o + 1 := ⟨zp_bd K N i m - 1, by omega⟩
          obtain ⟨oi, vo⟩ := zp_bdP eo
          have ok : o ≠ k := fun w => hne (by rw [← vo.2.1, w])
          rw [eo, zb_Is]
          refine zx_hid (u := i) hs hk'.1 (by omega) (by omega) (by omega) (by omega) vo.2.2 vk.2.2 ok (fun x => br_f zx_10 (no (fun w => ?_))) (fun x => br_t rfl (nm_r (nI_1 _) (nx ⟨fun _ => by omega, fun w => absurd e w⟩)))
          have := w.1 e
          omega
      · refine zb_if (zb_k 3 hK (by omega) (by omega) (by decide)) (fun a => ⟨zb_in (by omega), zb_if (zb_k m hN (by omega) (by omega) (by omega)) (fun b => ?_) (fun b => nm_r (nI_1 _) (nx ⟨fun w => absurd w e, fun _ _ w => absurd w b⟩))⟩) (fun a => nm_r (nI_1 _) (nx ⟨fun w => absurd w e, fun _ w => absurd w a⟩))
        refine zx_sees hs hk'.1 hk (by omega) (fun _ c => br_f zx_10 ⟨zb_in (by omega), ?_⟩) (fun c => br_t rfl (nm_r (nI_1 _) (nx ⟨fun w => absurd w e, fun _ _ _ w => absurd ⟨ki, w⟩ c⟩)))
        refine zb_if (zb_ltI0 (by omega)) (fun y => no (fun w => ?_)) (fun y => ⟨zb_in (by omega), ?_⟩)
        · have := w.2 e a b c
          omega
        · obtain ⟨o, eo⟩ : ∃ o, zp_B K N i = o + 1 := ⟨zp_B K N i - 1, by omega⟩
          obtain ⟨_, oi, vo⟩ := zp_Bs eo
          rw [eo, zb_Is]
          refine zx_hid (u := i) hs hk'.1 (by omega) (by omega) (by omega) (by omega) c vo.2.2 (by omega) (fun x => br_f zx_10 (no (fun w => ?_))) (fun x => br_t rfl (nm_r (nI_1 _) (nx ⟨fun w => absurd w e, fun _ _ _ _ => by omega⟩)))
          have := w.2 e a b c
          omega
theorem zx_ln {post : Int32 → Prop} {k m : Nat} (hO : zp_Ok K N sz) (hK : zb_At xk K) (hN : zb_At xn N) (hk' : zx_Kn K N sz xb xd xe xt) (hk : k < sz) (eK : K k = 2) (hm : m ≤ 7) (h1 : zp_Lg K (zn_N K N sz k m) (fun i => i) (zp_B K N) sz → post 1) (h0 : ¬ zp_Lg K (zn_N K N sz k m) (fun i => i) (zp_B K N) sz → post 0) : wpX_legalName post (nI sz, kn, xk, xn, xb, xd, xe, xt, xo) (nI k) (nI m) := by
  have hs := hO.1
  have n7 := hO.2.2.1 k (by omega)
  refine ⟨zb_in (by omega), ?_⟩
  rw [zb_rd hN (by omega)]
  refine zb_if (nI_eq (by omega) (by omega)) (fun e => h1 (zn_lawE hk eK e)) (fun e => nm_r (nI_1 _) ⟨sz + 1, ?_⟩)
  exact zx_ln16 hO hK hN hk' hk eK hm e h1 h0 (sz + 1) (k + 1) (by omega) (by omega) (by omega) (fun u a b => by omega)
theorem zx_nm19 {post : Int32 → SX → Prop} {k : Nat} (hO : zp_Ok K N sz) (hK : zb_At xk K) (hN : zb_At xn N) (hk' : zx_Kn K N sz xb xd xe xt) (hk : k < sz) (eK : K k = 2) (h : post (zb_S (fun m => zp_Lg K (zn_N K N sz k m) (fun i => i) (zp_B K N) sz) 8) (nI sz, kn, xk, xn, xb, xd, xe, xt, xo)) : ∀ n i, i ≤ 8 → 8 - i < n → wX_names_19 post (nI k) (nI sz) kn xk xn xb xd xe xt xo n (zb_S (fun m => zp_Lg K (zn_N K N sz k m) (fun i => i) (zp_B K N) sz) i) (nI i) := by
  intro n
  have hs := hO.1
  induction n with
  | zero => intro i _ z; omega
  | succ n ih =>
    intro i hi hn
    refine zb_if (nI_leI (a := 8) (by decide) (by omega)) (fun z => ?_) (fun z => ?_)
    · have : i = 8 := by omega
      subst this; exact h
    · have w := ih (i + 1) (by omega) (by omega)
      refine zx_ln hO hK hN hk' hk eK (by omega) (fun g => br_f zx_10 ?_) (fun g => br_t rfl ?_)
      · rw [zb_St (P := fun m => zp_Lg K (zn_N K N sz k m) (fun i => i) (zp_B K N) sz) g] at w
        exact nm_e (nm_r (nI_1 _) w)
      · rw [zb_Sf (P := fun m => zp_Lg K (zn_N K N sz k m) (fun i => i) (zp_B K N) sz) g] at w
        exact nm_r Int32.or_zero (nm_r (nI_1 _) w)
theorem zx_nm {post : Int32 → SX → Prop} {k : Nat} (hO : zp_Ok K N sz) (hK : zb_At xk K) (hN : zb_At xn N) (hkn : kn = 0 ∨ (kn = 1 ∧ zx_Kn K N sz xb xd xe xt)) (hk : k < sz) (eK : K k = 2) (h : ∀ xb xd xe xt xo, zx_Kn K N sz xb xd xe xt → post (zb_S (fun m => zp_Lg K (zn_N K N sz k m) (fun i => i) (zp_B K N) sz) 8) (nI sz, 1, xk, xn, xb, xd, xe, xt, xo)) : wpX_names post (nI sz, kn, xk, xn, xb, xd, xe, xt, xo) (nI k) := by
  unfold wpX_names
  refine zx_isA1 2 hO.1 hK hk (by decide) eK (br_f zx_10 ?_)
  refine zx_learn hO hK hN hkn (fun xb xd xe xt xo hk' => ⟨9, ?_⟩)
  exact zx_nm19 hO hK hN hk' hk eK (h _ _ _ _ _ hk') 9 0 (by omega) (by omega)
theorem zx_nm0 {post : Int32 → SX → Prop} {k : Nat} (hO : zp_Ok K N sz) (hK : zb_At xk K) (hN : zb_At xn N) (hk : k < sz) (e : K k ≠ 2) (h : post 0 (nI sz, kn, xk, xn, xb, xd, xe, xt, xo)) : wpX_names post (nI sz, kn, xk, xn, xb, xd, xe, xt, xo) (nI k) := by
  unfold wpX_names
  exact zx_isA0 2 hO.1 hK hO.2.1 hk (by decide) e (br_t rfl h)
theorem zx_nmb {post : Int32 → SX → Prop} {p : Int32} (hp : p < 0 ∨ nI sz ≤ p) (h : post 0 (nI sz, kn, xk, xn, xb, xd, xe, xt, xo)) : wpX_names post (nI sz, kn, xk, xn, xb, xd, xe, xt, xo) p := by
  unfold wpX_names
  exact zx_isAb hp (br_t rfl h)
theorem zx_rn42 {post : Int32 → SX → Prop} {k m : Nat} (hO : zp_Ok K N sz) (hT : ∀ u, u < sz → xt u = zb_I (zp_B K N u)) (hk : k < sz) (hm : m ≤ 7) (h : ∀ xn, zb_At xn (zn_N K N sz k m) → post (nI (zr_c (fun u => zn_N K N sz k m u ≠ N u) sz)) (nI sz, kn, xk, xn, xb, xd, xe, xt, xo)) : ∀ n i xn, i ≤ sz → sz - i < n → zb_At xn (zr_M i (zn_N K N sz k m) N) → wX_rename_42 post (nI k) (nI m) (nI sz) kn n (nI (zr_c (fun u => zn_N K N sz k m u ≠ N u) i)) (nI i) xk xn xb xd xe xt xo := by
  intro n
  have hs := hO.1
  induction n with
  | zero => intro i _ _ z; omega
  | succ n ih =>
    intro i xn hi hn hA
    refine zb_if (nI_leI (by omega) (by omega)) (fun z => ?_) (fun z => ?_)
    · have : i = sz := by omega
      subst this
      refine h xn (fun j hj => ?_)
      rw [hA j hj]
      rcases Nat.lt_or_ge j i with y | y
      · rw [zr_Mt y]
      · rw [zr_Mf (by omega)]
        unfold zn_N
        rw [if_neg (fun w => by omega)]
    · have n7 := hO.2.2.1 i (by omega)
      have lB := zp_Bl (K := K) (N := N) (u := i)
      have st : ∀ yn, (∀ j, j < 28 → yn j = if j = i then nI (zn_N K N sz k m i) else xn j) → zb_At yn (zr_M (i + 1) (zn_N K N sz k m) N) := by
        intro yn hy j hj
        rw [hy j hj]
        rcases Classical.em (j = i) with e | e
        · subst e
          rw [if_pos rfl, zr_Mt (by omega)]
        · rw [if_neg e, hA j hj]
          rcases Nat.lt_or_ge j i with y | y
          · rw [zr_Mt y, zr_Mt (by omega)]
          · rw [zr_Mf (by omega), zr_Mf (by omega)]
      have ri : xn (nI i).toNatClampNeg = nI (N i) := by rw [zb_c (by omega), hA i (by omega), zr_Mf (by omega)]
      have xi : xn i = nI (N i) := by rw [hA i (by omega), zr_Mf (by omega)]
      have same : zn_N K N sz k m i = N i → zb_At xn (zr_M (i + 1) (zn_N K N sz k m) N) := by
        intro e
        refine st xn (fun j hj => ?_)
        rcases Classical.em (j = i) with y | y
        · subst y; rw [if_pos rfl, e, xi]
        · rw [if_neg y]
      have q : (i = k ∨ zp_B K N i = k + 1) → wX_rename_68 post (wX_rename_42 post (nI k) (nI m) (nI sz) kn n) (nI k) (nI m) (nI (zr_c (fun u => zn_N K N sz k m u ≠ N u) i)) (nI i) (nI sz) kn xk xn xb xd xe xt xo := by
        intro hc
        have e1 : zn_N K N sz k m i = m := zn_Nt (by omega) hc
        refine ⟨zb_in (by omega), ?_⟩
        rw [ri]
        refine zb_if (nI_eq (by omega) (by omega)) (fun e => ?_) (fun e => ⟨zb_in (by omega), ?_⟩)
        · have w := ih (i + 1) xn (by omega) (by omega) (same (by omega))
          rw [zr_cf (P := fun u => zn_N K N sz k m u ≠ N u) (fun v => v (by omega))] at w
          exact nm_r (nI_1 _) w
        · have w := ih (i + 1) (upd xn i (nI m)) (by omega) (by omega) (st _ (fun j hj => by
            rcases Classical.em (j = i) with y | y
            · subst y; rw [if_pos rfl, pk_us, e1]
            · rw [if_neg y, pk_un y]))
          rw [zr_ct (P := fun u => zn_N K N sz k m u ≠ N u) (by show zn_N K N sz k m i ≠ N i; omega)] at w
          exact nm_r (e' := upd xn i (nI m)) (by rw [zb_c (by omega), zb_vn8 (by omega)]) (nm_r (nI_1 _) (nm_r (nI_1 _) w))
      refine zb_if (nI_eq (by omega) (by omega)) (fun e => q (Or.inl e)) (fun e => ⟨zb_in (by omega), ?_⟩)
      rw [zb_rdI (by omega) (hT i (by omega))]
      refine zb_if (zb_eqIN (by omega) (by omega)) (fun b => q (Or.inr b)) (fun b => ?_)
      have e1 : zn_N K N sz k m i = N i := zn_Nf e b
      have w := ih (i + 1) xn (by omega) (by omega) (same e1)
      rw [zr_cf (P := fun u => zn_N K N sz k m u ≠ N u) (fun v => v e1)] at w
      exact nm_r (nI_1 _) w
theorem zx_rn {post : Int32 → SX → Prop} {k m : Nat} (hO : zp_Ok K N sz) (hK : zb_At xk K) (hN : zb_At xn N) (hkn : kn = 0 ∨ (kn = 1 ∧ zx_Kn K N sz xb xd xe xt)) (hk : k < sz) (eK : K k = 2) (hm : m ≤ 7) (h0 : ∀ xb xd xe xt xo, zx_Kn K N sz xb xd xe xt → ¬ zp_Lg K (zn_N K N sz k m) (fun i => i) (zp_B K N) sz → post (-3) (nI sz, 1, xk, xn, xb, xd, xe, xt, xo)) (h1 : ∀ xb xd xe xt xo, zx_Kn K N sz xb xd xe xt → zp_Lg K (zn_N K N sz k m) (fun i => i) (zp_B K N) sz → ∀ xn, zb_At xn (zn_N K N sz k m) → post (nI (zr_c (fun u => zn_N K N sz k m u ≠ N u) sz)) (nI sz, 1, xk, xn, xb, xd, xe, xt, xo)) : wpX_rename post (nI sz, kn, xk, xn, xb, xd, xe, xt, xo) (nI k) (nI m) := by
  unfold wpX_rename
  refine zx_isA1 2 hO.1 hK hk (by decide) eK (br_f zx_10 (br_f (nI_pos (by omega)) (br_t (nI_lt (b := 8) (by omega) (by decide)) ?_)))
  refine zx_learn hO hK hN hkn (fun xb xd xe xt xo hk' => ?_)
  refine zx_ln hO hK hN hk' hk eK hm (fun g => br_f zx_10 ⟨sz + 1, ?_⟩) (fun g => br_t rfl (h0 _ _ _ _ _ hk' g))
  exact zx_rn42 hO hk'.2 hk hm (fun yn hy => h1 _ _ _ _ _ hk' g yn hy) (sz + 1) 0 xn (by omega) (by omega) (fun j hj => by
    rw [zr_Mf (Nat.not_lt_zero j)]; exact hN j hj)
theorem zx_rn0 {post : Int32 → SX → Prop} {k : Nat} {p : Int32} (hO : zp_Ok K N sz) (hK : zb_At xk K) (hN : zb_At xn N) (hk : k < sz) (e : K k ≠ 2) (h : post (-1) (nI sz, kn, xk, xn, xb, xd, xe, xt, xo)) : wpX_rename post (nI sz, kn, xk, xn, xb, xd, xe, xt, xo) (nI k) p := by
  unfold wpX_rename
  exact zx_isA0 2 hO.1 hK hO.2.1 hk (by decide) e (br_t rfl h)
theorem zx_rnb {post : Int32 → SX → Prop} {p q : Int32} (hp : p < 0 ∨ nI sz ≤ p) (h : post (-1) (nI sz, kn, xk, xn, xb, xd, xe, xt, xo)) : wpX_rename post (nI sz, kn, xk, xn, xb, xd, xe, xt, xo) p q := by
  unfold wpX_rename
  exact zx_isAb hp (br_t rfl h)
theorem zx_rnm {post : Int32 → SX → Prop} {k : Nat} {p : Int32} (hO : zp_Ok K N sz) (hK : zb_At xk K) (hN : zb_At xn N) (hk : k < sz) (e : K k = 2) (hp : p < 0 ∨ 8 ≤ p) (h : post (-1) (nI sz, kn, xk, xn, xb, xd, xe, xt, xo)) : wpX_rename post (nI sz, kn, xk, xn, xb, xd, xe, xt, xo) (nI k) p := by
  unfold wpX_rename
  refine zx_isA1 2 hO.1 hK hk (by decide) e (br_f zx_10 ?_)
  rcases Classical.em (p < 0) with z | z
  · exact br_t z h
  · exact br_f z (br_f (Int32.not_lt.mpr (hp.resolve_left z)) h)
end
end
section
/-! the component: swapping and moving, adding -/
section
variable {K N : Nat → Nat} {sz : Nat} {kn : Int32} {xk xn xb xd xe xt xo : Nat → Int32}
theorem zx_ls41 {post : Int32 → SX → Prop} {k : Nat} (hO : zp_Ok K N sz) (hK : zb_At xk K) (hN : zb_At xn N) (hkn : kn = 0 ∨ (kn = 1 ∧ zx_Kn K N sz xb xd xe xt)) (hk : k + 1 < sz) (h2 : 2 ≤ K k) (h3 : 2 ≤ K (k + 1)) (hn : N k = N (k + 1)) (hu : ¬ (K k = 3 ∧ K (k + 1) = 3)) (hd1 : zs_bad K N sz k → post 0 (nI sz, kn, xk, xn, xb, xd, xe, xt, xo)) (h1 : ∀ xb xd xe xt xo, zx_Kn K N sz xb xd xe xt → ¬ zs_bad K N sz k → post 1 (nI sz, 1, xk, xn, xb, xd, xe, xt, xo)) (h0 : ∀ xb xd xe xt xo, zx_Kn K N sz xb xd xe xt → zs_bad K N sz k → post 0 (nI sz, 1, xk, xn, xb, xd, xe, xt, xo)) : wX_legalSwap_41 post (nI k) (nI sz) kn xk xn xb xd xe xt xo := by
  have hs := hO.1
  have a3 := hO.2.1 k (by omega)
  have b3 := hO.2.1 (k + 1) (by omega)
  unfold wX_legalSwap_41
  rw [nI_1 k]
  refine ⟨zb_in (by omega), zb_if (zb_k 3 hK (by omega) (by omega) (by decide)) (fun a => hd1 ⟨hn, Or.inr (Or.inl ⟨a, by omega⟩)⟩) (fun a => ⟨zb_in (by omega), zb_if (zb_k 3 hK (by omega) (by omega) (by decide)) (fun b => hd1 ⟨hn, Or.inl ⟨by omega, b⟩⟩) (fun b => ?_)⟩)⟩
  refine zx_us (k := k + 1) hO hK hN hkn (by omega) (by omega) (fun xb xd xe xt xo hk' => ?_)
  refine zb_if (zb_S0 sz (by omega)) (fun e => h1 _ _ _ _ _ hk' ?_) (fun e => h0 _ _ _ _ _ hk' ⟨hn, Or.inr (Or.inr ⟨by omega, by omega, ?_⟩)⟩)
  · rintro ⟨_, ⟨c, d⟩ | ⟨c, d⟩ | ⟨c, d, u, us, eu⟩⟩
    · omega
    · omega
    · exact e u us eu
  · rcases Classical.em (∃ u, u < sz ∧ zp_B K N u = k + 2) with w | w
    · exact w
    · exact absurd (fun i hi z => w ⟨i, hi, z⟩) e
theorem zx_ls {post : Int32 → SX → Prop} {k : Nat} (hO : zp_Ok K N sz) (hK : zb_At xk K) (hN : zb_At xn N) (hk' : zx_Kn K N sz xb xd xe xt) (hk : k + 1 < sz) (h2 : 2 ≤ K k) (h3 : 2 ≤ K (k + 1)) (h1 : ∀ xb xd xe xt xo, zx_Kn K N sz xb xd xe xt → ¬ zs_bad K N sz k → post 1 (nI sz, 1, xk, xn, xb, xd, xe, xt, xo)) (h0 : ∀ xb xd xe xt xo, zx_Kn K N sz xb xd xe xt → zs_bad K N sz k → post 0 (nI sz, 1, xk, xn, xb, xd, xe, xt, xo)) : wpX_legalSwap post (nI sz, 1, xk, xn, xb, xd, xe, xt, xo) (nI k) := by
  have hs := hO.1
  have a3 := hO.2.1 k (by omega)
  have b3 := hO.2.1 (k + 1) (by omega)
  have a7 := hO.2.2.1 k (by omega)
  have b7 := hO.2.2.1 (k + 1) (by omega)
  unfold wpX_legalSwap
  dsimp only
  rw [nI_1 k, zb_rd hN (j := k) (by omega), zb_rd hN (j := k + 1) (by omega)]
  refine ⟨zb_in (by omega), zb_in (by omega), zb_if (nI_eq (by omega) (by omega)) (fun e => ⟨zb_in (by omega), ?_⟩) (fun e => h1 _ _ _ _ _ hk' (fun w => e w.1))⟩
  have q : ¬ (K k = 3 ∧ K (k + 1) = 3) → wX_legalSwap_41 post (nI k) (nI sz) 1 xk xn xb xd xe xt xo := fun w => zx_ls41 hO hK hN (Or.inr ⟨rfl, hk'⟩) hk h2 h3 e w (fun z => h0 _ _ _ _ _ hk' z) h1 h0
  refine zb_if (zb_k 3 hK (by omega) (by omega) (by decide)) (fun a => ⟨zb_in (by omega), zb_if (zb_k 3 hK (by omega) (by omega) (by decide)) (fun b => h1 _ _ _ _ _ hk' ?_) (fun b => q (fun w => b w.2))⟩) (fun a => q (fun w => a w.1))
  rintro ⟨_, ⟨c, d⟩ | ⟨c, d⟩ | ⟨c, d, _⟩⟩
  · omega
  · omega
  · omega
theorem zx_swA {f : Nat → Nat} {a : Nat → Int32} {k : Nat} (hk : k + 1 < 28) (h : zb_At a f) : zb_At (upd (upd a k (nI (f (k + 1)))) (k + 1) (nI (f k))) (fun i => f (zs_O k i)) := by
  intro i hi
  show _ = nI (f (zs_O k i))
  rcases zs_cs k i with ⟨e, o⟩ | ⟨e, o⟩ | ⟨e1, e2, o⟩
  · rw [o, pk_un (by omega), e, pk_us]
  · rw [o, e, pk_us]
  · rw [o, pk_un e2, pk_un e1]; exact h i hi
theorem zx_sw45 {post : Int32 → SX → Prop} {k : Nat} (hO : zp_Ok K N sz) (hK : zb_At xk K) (hN : zb_At xn N) (hkn : kn = 0 ∨ (kn = 1 ∧ zx_Kn K N sz xb xd xe xt)) (hk : k + 1 < sz) (h2 : 2 ≤ K k) (h3 : 2 ≤ K (k + 1)) (h0 : ∀ xb xd xe xt xo, zx_Kn K N sz xb xd xe xt → zs_bad K N sz k → post (-3) (nI sz, 1, xk, xn, xb, xd, xe, xt, xo)) (h1 : ¬ zs_bad K N sz k → ∀ xk xn xb xd xe xt xo, zb_At xk (fun i => K (zs_O k i)) → zb_At xn (fun i => N (zs_O k i)) → post (nI k) (nI sz, 0, xk, xn, xb, xd, xe, xt, xo)) : wX_swap_45 post (nI k) 1 (nI sz) kn xk xn xb xd xe xt xo := by
  have hs := hO.1
  have a3 := hO.2.1 k (by omega)
  have b3 := hO.2.1 (k + 1) (by omega)
  have a7 := hO.2.2.1 k (by omega)
  have b7 := hO.2.2.1 (k + 1) (by omega)
  unfold wX_swap_45
  refine br_f zx_10 (zx_learn hO hK hN hkn (fun xb xd xe xt xo hk' => ?_))
  refine zx_ls hO hK hN hk' hk h2 h3 (fun xb xd xe xt xo hk' g => br_f zx_10 ?_) (fun xb xd xe xt xo hk' g => br_t rfl (h0 _ _ _ _ _ hk' g))
  have i0 : vp_in (nI k) 28 := zb_in (by omega)
  have i1 : vp_in (nI k + 1) 28 := by rw [nI_1]; exact zb_in (by omega)
  have c1 : (nI k + 1).toNatClampNeg = k + 1 := by rw [nI_1]; exact zb_c (by omega)
  refine ⟨i0, nm_r (zb_rd hK (by omega)) ⟨i0, nm_r (zb_rd hN (by omega)) ⟨i1, i0, nm_r (e' := upd xk k (nI (K (k + 1)))) ?_ ⟨i1, i0, nm_r (e' := upd xn k (nI (N (k + 1)))) ?_ ⟨i1, nm_r (e' := upd (upd xk k (nI (K (k + 1)))) (k + 1) (nI (K k))) ?_ ⟨i1, nm_r (e' := upd (upd xn k (nI (N (k + 1)))) (k + 1) (nI (N k))) ?_ ?_⟩⟩⟩⟩⟩⟩
  · rw [c1, zb_c (by omega), hK (k + 1) (by omega), zb_vn (by omega)]
  · rw [c1, zb_c (by omega), hN (k + 1) (by omega), zb_vn (by omega)]
  · rw [c1, zb_vn (by omega)]
  · rw [c1, zb_vn (by omega)]
  · exact h1 g _ _ _ _ _ _ _ (zx_swA (by omega) hK) (zx_swA (by omega) hN)
theorem zx_sw {post : Int32 → SX → Prop} {k : Nat} (hO : zp_Ok K N sz) (hK : zb_At xk K) (hN : zb_At xn N) (hkn : kn = 0 ∨ (kn = 1 ∧ zx_Kn K N sz xb xd xe xt)) (hk : k + 1 < sz) (h2 : 2 ≤ K k) (h3 : 2 ≤ K (k + 1)) (h0 : ∀ xb xd xe xt xo, zx_Kn K N sz xb xd xe xt → zs_bad K N sz k → post (-3) (nI sz, 1, xk, xn, xb, xd, xe, xt, xo)) (h1 : ¬ zs_bad K N sz k → ∀ xk xn xb xd xe xt xo, zb_At xk (fun i => K (zs_O k i)) → zb_At xn (fun i => N (zs_O k i)) → post (nI k) (nI sz, 0, xk, xn, xb, xd, xe, xt, xo)) : wpX_swap post (nI sz, kn, xk, xn, xb, xd, xe, xt, xo) (nI k) := by
  have hs := hO.1
  have a3 := hO.2.1 k (by omega)
  have b3 := hO.2.1 (k + 1) (by omega)
  unfold wpX_swap
  dsimp only
  rw [nI_1 k, zb_rd hK (j := k) (by omega), zb_rd hK (j := k + 1) (by omega)]
  refine zx_isP1 hs (by omega) (br_f zx_10 (zx_isP1 hs hk (br_f zx_10 ⟨zb_in (by omega), br_f (nI_nlt (b := 2) h2 (by omega)) ⟨zb_in (by omega), br_f (nI_nlt (b := 2) h3 (by omega)) ?_⟩⟩)))
  exact zx_sw45 hO hK hN hkn hk h2 h3 h0 h1
theorem zx_sw44 {post : Int32 → SX → Prop} {p : Int32} (h : post (-1) (nI sz, kn, xk, xn, xb, xd, xe, xt, xo)) : wX_swap_44 post p (nI sz) kn xk xn xb xd xe xt xo := br_t rfl h
/-- places that can't be swapped -/
theorem zx_swb {post : Int32 → SX → Prop} {p : Int32} (hp : p < 0 ∨ nI sz ≤ p) (h : post (-1) (nI sz, kn, xk, xn, xb, xd, xe, xt, xo)) : wpX_swap post (nI sz, kn, xk, xn, xb, xd, xe, xt, xo) p := by
  unfold wpX_swap
  exact zx_isP0 hp (br_t rfl (zx_sw44 h))
theorem zx_sw0 {post : Int32 → SX → Prop} {k : Nat} (hO : zp_Ok K N sz) (hK : zb_At xk K) (hN : zb_At xn N) (hk : k < sz) (hc : sz ≤ k + 1 ∨ (k + 1 < sz ∧ (K k < 2 ∨ K (k + 1) < 2))) (h : post (-1) (nI sz, kn, xk, xn, xb, xd, xe, xt, xo)) : wpX_swap post (nI sz, kn, xk, xn, xb, xd, xe, xt, xo) (nI k) := by
  have hs := hO.1
  unfold wpX_swap
  dsimp only
  rw [nI_1 k]
  refine zx_isP1 hs hk (br_f zx_10 ?_)
  rcases hc with c | ⟨c, d⟩
  · exact zx_isP0 (Or.inr (nI_le c (by omega))) (br_t rfl (zx_sw44 h))
  · have a3 := hO.2.1 k (by omega)
    have b3 := hO.2.1 (k + 1) (by omega)
    refine zx_isP1 hs c (br_f zx_10 ⟨zb_in (by omega), ?_⟩)
    rw [zb_rd hK (j := k) (by omega), zb_rd hK (j := k + 1) (by omega)]
    refine zb_if (nI_ltI (b := 2) (by omega) (by decide)) (fun _ => zx_sw44 h) (fun e => ⟨zb_in (by omega), br_t (nI_lt (b := 2) (by omega) (by decide)) (zx_sw44 h)⟩)
/-! moving out -/
theorem zx_lo79 {post : Int32 → SX → Prop} {k b : Nat} (hO : zp_Ok K N sz) (hK : zb_At xk K) (hN : zb_At xn N) (hk' : zx_Kn K N sz xb xd xe xt) (hk : k < sz) (hB : zp_bk K k = b + 1) (h1 : zm_2 K N sz k b → post 1 (nI sz, kn, xk, xn, xb, xd, xe, xt, xo)) (h0 : ¬ zm_2 K N sz k b → post 0 (nI sz, kn, xk, xn, xb, xd, xe, xt, xo)) : ∀ n i, b < i → i ≤ sz → sz - i < n → (∀ u, b < u → u < i → K u = 3 → N u = N k → zp_B K N u ≠ k + 1 → zp_In K b u → b < zp_B K N u) → wX_legalOut_79 post (nI k) (nI b) (nI sz) kn xk xn xb xd xe xt xo n (nI i) := by
  intro n
  have hs := hO.1
  obtain ⟨b1, b2, b3, b4⟩ := zp_bks hB
  induction n with
  | zero => intro i _ _ z; omega
  | succ n ih =>
    intro i bi hi hn hu
    refine zb_if (nI_leI (by omega) (by omega)) (fun z => ?_) (fun z => ⟨zb_in (by omega), ?_⟩)
    · have : i = sz := by omega
      subst this; exact h1 hu
    · have k3 := hO.2.1 i (by omega)
      have n7 := hO.2.2.1 i (by omega)
      have m7 := hO.2.2.1 k (by omega)
      have lB := zp_Bl (K := K) (N := N) (u := i)
      have nx : (K i = 3 → N i = N k → zp_B K N i ≠ k + 1 → zp_In K b i → b < zp_B K N i) → wX_legalOut_79 post (nI k) (nI b) (nI sz) kn xk xn xb xd xe xt xo n (nI (i + 1)) := fun o => ih (i + 1) (by omega) (by omega) (by omega) (fun u a c => by
        rcases Nat.lt_or_ge u i with y | y
        · exact hu u a y
        · have : u = i := by omega
          subst this; exact o)
      have n0 : (K i = 3 → N i = N k → zp_B K N i ≠ k + 1 → zp_In K b i → b < zp_B K N i) → wX_legalOut_130 post (wX_legalOut_79 post (nI k) (nI b) (nI sz) kn xk xn xb xd xe xt xo n) (nI k) (nI b) (nI i) (nI sz) kn xk xn xb xd xe xt xo := fun o => br_t rfl (nm_r (nI_1 _) (nx o))
      have n1 : K i = 3 → N i = N k → zp_B K N i ≠ k + 1 → wX_legalOut_131 post (wX_legalOut_79 post (nI k) (nI b) (nI sz) kn xk xn xb xd xe xt xo n) (nI k) (nI b) (nI i) 1 (nI sz) kn xk xn xb xd xe xt xo := by
        intro e1 e2 e3
        have no : zp_In K b i → ¬ b < zp_B K N i → post 0 (nI sz, kn, xk, xn, xb, xd, xe, xt, xo) := fun a c => h0 (fun w => c (w i bi (by omega) e1 e2 e3 a))
        refine br_f zx_10 (zx_inB hs hk'.1 bi (by omega) (fun a => br_f zx_10 ⟨zb_in (by omega), ?_⟩) (fun a => br_t rfl (nm_r (nI_1 _) (nx (fun _ _ _ c => absurd c a)))))
        rw [zb_rdI (by omega) (hk'.2 i (by omega))]
        refine zb_if (zb_ltI0 (by omega)) (fun y => no a (by omega)) (fun y => ⟨zb_in (by omega), ?_⟩)
        refine zb_if (zb_leNI (by omega) (by omega)) (fun x => nm_r (nI_1 _) (nx (fun _ _ _ _ => x))) (fun x => ⟨zb_in (by omega), ?_⟩)
        obtain ⟨o, eo⟩ : ∃ o, zp_B K N i = o + 1 := ⟨zp_B K N i - 1, by omega⟩
        obtain ⟨_, oi, vo⟩ := zp_Bs eo
        rw [eo, zb_Is]
        exact zx_hid (u := i) hs hk'.1 (by omega) (by omega) (by omega) (by omega) vo.2.2 a (by omega) (fun w => by omega) (fun w => br_t rfl (no a x))
      refine zb_if (zb_k 3 hK (by omega) (by omega) (by decide)) (fun a => ⟨zb_in (by omega), zb_in (by omega), ?_⟩) (fun a => n0 (fun w => absurd w a))
      rw [zb_rd hN (j := i) (by omega), zb_rd hN (j := k) (by omega)]
      refine zb_if (nI_eq (by omega) (by omega)) (fun c => ⟨zb_in (by omega), ?_⟩) (fun c => n0 (fun _ w => absurd w c))
      rw [zb_rdI (by omega) (hk'.2 i (by omega))]
      exact zb_if (zb_eqIN (by omega) (by omega)) (fun d => n0 (fun _ _ w => absurd d w)) (fun d => n1 a c d)
theorem zx_lo18 {post : Int32 → SX → Prop} {k b : Nat} {r : Int32} (hO : zp_Ok K N sz) (hK : zb_At xk K) (hN : zb_At xn N) (hk' : zx_Kn K N sz xb xd xe xt) (hk : k < sz) (hB : zp_bk K k = b + 1) (hr : r = 0 ↔ ∀ u, u < sz → ¬ zp_B K N u = k + 1) (h1 : zm_1 K N sz k b → ∃ n, wX_legalOut_79 post (nI k) (nI b) (nI sz) kn xk xn xb xd xe xt xo n (nI (b + 1))) (h0 : ¬ zm_1 K N sz k b → post 0 (nI sz, kn, xk, xn, xb, xd, xe, xt, xo)) : ∀ n i, b < i → i ≤ k → k - i < n → ((∃ u, u < sz ∧ zp_B K N u = k + 1) → ∀ e, b < e → e < i → K e = 2 → N e = N k → zp_bk K e ≠ b + 1) → wX_legalOut_18 post (nI k) (nI b) r (nI sz) kn xk xn xb xd xe xt xo n (nI i) := by
  intro n
  have hs := hO.1
  obtain ⟨b1, b2, b3, b4⟩ := zp_bks hB
  induction n with
  | zero => intro i _ _ z; omega
  | succ n ih =>
    intro i bi hi hn hu
    refine zb_if (nI_leI (by omega) (by omega)) (fun z => ?_) (fun z => ?_)
    · have : i = k := by omega
      subst this; exact nm_r (nI_1 _) (h1 hu)
    · have k3 := hO.2.1 i (by omega)
      have n7 := hO.2.2.1 i (by omega)
      have m7 := hO.2.2.1 k (by omega)
      have lb := zp_bkl (K := K) (k := i)
      have nx : ((∃ u, u < sz ∧ zp_B K N u = k + 1) → K i = 2 → N i = N k → zp_bk K i ≠ b + 1) → wX_legalOut_18 post (nI k) (nI b) r (nI sz) kn xk xn xb xd xe xt xo n (nI (i + 1)) := fun o => ih (i + 1) (by omega) (by omega) (by omega) (fun hx u a c => by
        rcases Nat.lt_or_ge u i with y | y
        · exact hu hx u a y
        · have : u = i := by omega
          subst this; exact o hx)
      refine zb_if hr (fun a => nm_r (nI_1 _) (nx (fun w => by
        obtain ⟨u, us, eu⟩ := w
        exact absurd eu (a u us)))) (fun a => ⟨zb_in (by omega), ?_⟩)
      have hx : ∃ u, u < sz ∧ zp_B K N u = k + 1 := by
        rcases Classical.em (∃ u, u < sz ∧ zp_B K N u = k + 1) with w | w
        · exact w
        · exact absurd (fun i hi z => w ⟨i, hi, z⟩) a
      refine zb_if (zb_k 2 hK (by omega) (by omega) (by decide)) (fun a => ⟨zb_in (by omega), zb_in (by omega), ?_⟩) (fun a => nm_r (nI_1 _) (nx (fun _ w => absurd w a)))
      rw [zb_rd hN (j := i) (by omega), zb_rd hN (j := k) (by omega)]
      refine zb_if (nI_eq (by omega) (by omega)) (fun c => ⟨zb_in (by omega), ?_⟩) (fun c => nm_r (nI_1 _) (nx (fun _ _ w => absurd w c)))
      rw [zb_rdI (by omega) (hk'.1 i (by omega)).1]
      exact zb_if (zb_eqIN (by omega) (by omega)) (fun d => h0 (fun w => w hx i bi (by omega) a c d)) (fun d => nm_r (nI_1 _) (nx (fun _ _ _ => d)))
theorem zx_lo {post : Int32 → SX → Prop} {k b : Nat} (hO : zp_Ok K N sz) (hK : zb_At xk K) (hN : zb_At xn N) (hk' : zx_Kn K N sz xb xd xe xt) (hk : k < sz) (eK : K k = 2) (hB : zp_bk K k = b + 1) (h1 : ∀ xb xd xe xt xo, zx_Kn K N sz xb xd xe xt → zm_1 K N sz k b ∧ zm_2 K N sz k b → post 1 (nI sz, 1, xk, xn, xb, xd, xe, xt, xo)) (h0 : ∀ xb xd xe xt xo, zx_Kn K N sz xb xd xe xt → ¬ (zm_1 K N sz k b ∧ zm_2 K N sz k b) → post 0 (nI sz, 1, xk, xn, xb, xd, xe, xt, xo)) : wpX_legalOut post (nI sz, 1, xk, xn, xb, xd, xe, xt, xo) (nI k) := by
  have hs := hO.1
  obtain ⟨b1, b2, b3, b4⟩ := zp_bks hB
  refine ⟨zb_in (by omega), nm_r (e' := nI b) (by rw [zb_rdI (by omega) (hk'.1 k hk).1, hB, zb_Is]) ?_⟩
  refine zx_us hO hK hN (Or.inr ⟨rfl, hk'⟩) hk eK (fun xb xd xe xt xo hk' => nm_r (nI_1 _) ⟨k + 1, ?_⟩)
  refine zx_lo18 hO hK hN hk' hk hB (zb_S0 sz (by omega)) (fun g1 => ⟨sz + 1, ?_⟩) (fun g => h0 _ _ _ _ _ hk' (fun w => g w.1)) (k + 1) (b + 1) (by omega) (by omega) (by omega) (fun _ e _ _ => by omega)
  exact zx_lo79 hO hK hN hk' hk hB (fun g2 => h1 _ _ _ _ _ hk' ⟨g1, g2⟩) (fun g => h0 _ _ _ _ _ hk' (fun w => g w.2)) (sz + 1) (b + 1) (by omega) (by omega) (by omega) (fun u _ _ => by omega)
/-- the shift up to i -/
def zm_S (f : Nat → Nat) (k i j : Nat) : Nat := if i < j ∧ j ≤ k then f (j - 1) else f j
theorem zm_St {f : Nat → Nat} {k i j : Nat} (h : i < j ∧ j ≤ k) : zm_S f k i j = f (j - 1) := if_pos h
theorem zm_Sf {f : Nat → Nat} {k i j : Nat} (h : ¬ (i < j ∧ j ≤ k)) : zm_S f k i j = f j := if_neg h
theorem zm_Sstep {f : Nat → Nat} {a : Nat → Int32} {k i : Nat} (hi : i < k) (hk : k < 28) (h : zb_At a (zm_S f k (i + 1))) : zb_At (upd a (i + 1) (nI (f i))) (zm_S f k i) := by
  intro j hj
  rcases Classical.em (j = i + 1) with e | e
  · subst e
    rw [pk_us, zm_St ⟨by omega, by omega⟩]
    rfl
  · rw [pk_un e, h j hj]
    rcases Classical.em (i + 1 < j ∧ j ≤ k) with y | y
    · rw [zm_St y, zm_St ⟨by omega, y.2⟩]
    · rw [zm_Sf y, zm_Sf (by omega)]
theorem zm_Send {f : Nat → Nat} {a : Nat → Int32} {k b : Nat} (hb : b < k) (hk : k < 28) (h : zb_At a (zm_S f k b)) : zb_At (upd a b (nI (f k))) (fun i => f (zm_O b k i)) := by
  intro j hj
  show _ = nI (f (zm_O b k j))
  rcases zm_cs b k j with ⟨e, o⟩ | ⟨e1, e2, o⟩ | ⟨e, o⟩ | ⟨e1, e2, o⟩
  · rw [o, e, pk_us]
  · rw [o, pk_un (by omega), h j hj, zm_St ⟨e1, e2⟩]
  · rw [o, pk_un (by omega), h j hj, zm_Sf (by omega)]
  · rw [o, pk_un (by omega), h j hj, zm_Sf (by omega)]
theorem zx_mo50 {post : Int32 → SX → Prop} {k b : Nat} (hO : zp_Ok K N sz) (hk : k < sz) (eK : K k = 2) (hb : b < k) (h : ∀ xk xn, zb_At xk (fun i => K (zm_O b k i)) → zb_At xn (fun i => N (zm_O b k i)) → post (nI b) (nI sz, 0, xk, xn, xb, xd, xe, xt, xo)) : ∀ n i xk xn, b ≤ i → i ≤ k → i - b < n → zb_At xk (zm_S K k i) → zb_At xn (zm_S N k i) → wX_moveOut_50 post (nI b) (nI (N k)) (nI sz) kn n (nI i) xk xn xb xd xe xt xo := by
  intro n
  have hs := hO.1
  have n7 := hO.2.2.1 k (by omega)
  induction n with
  | zero => intro i _ _ _ _ z; omega
  | succ n ih =>
    intro i xk xn bi ik hn hA hC
    refine zb_if (nI_leI (by omega) (by omega)) (fun z => ?_) (fun z => ?_)
    · have : i = b := by omega
      subst this
      have w := h _ _ (zm_Send hb (by omega) hA) (zm_Send hb (by omega) hC)
      rw [eK] at w
      have v2 : vp_nar .byte 2 = nI 2 := zb_vn (n := 2) (by omega)
      exact ⟨zb_in (by omega), nm_r (e' := upd xk i (nI 2)) (by rw [zb_c (by omega), v2]) ⟨zb_in (by omega), nm_r (e' := upd xn i (nI (N k))) (by rw [zb_c (by omega), zb_vn (by omega)]) w⟩⟩
    · obtain ⟨p, rfl⟩ : ∃ p, i = p + 1 := ⟨i - 1, by omega⟩
      have k3 := hO.2.1 p (by omega)
      have p7 := hO.2.2.1 p (by omega)
      have r1 : xk p = nI (K p) := by rw [hA p (by omega), zm_Sf (by omega)]
      have r2 : xn p = nI (N p) := by rw [hC p (by omega), zm_Sf (by omega)]
      have w := ih p (upd xk (p + 1) (nI (K p))) (upd xn (p + 1) (nI (N p))) (by omega) (by omega) (by omega) (zm_Sstep (by omega) (by omega) hA) (zm_Sstep (by omega) (by omega) hC)
      have i0 : vp_in (nI (p + 1) - 1) 28 := by rw [nI_pred]; exact zb_in (by omega)
      have c0 : (nI (p + 1) - 1).toNatClampNeg = p := by rw [nI_pred]; exact zb_c (by omega)
      exact ⟨i0, zb_in (by omega), nm_r (e' := upd xk (p + 1) (nI (K p))) (by rw [c0, zb_c (by omega), r1, zb_vn (by omega)]) ⟨i0, zb_in (by omega), nm_r (e' := upd xn (p + 1) (nI (N p))) (by rw [c0, zb_c (by omega), r2, zb_vn (by omega)]) (nm_r (pk_m1 p) w)⟩⟩
theorem zm_S0 {f : Nat → Nat} {a : Nat → Int32} {k : Nat} (h : zb_At a f) : zb_At a (zm_S f k k) := by
  intro j hj
  rw [zm_Sf (by omega)]; exact h j hj
theorem zx_mo {post : Int32 → SX → Prop} {k b : Nat} (hO : zp_Ok K N sz) (hK : zb_At xk K) (hN : zb_At xn N) (hkn : kn = 0 ∨ (kn = 1 ∧ zx_Kn K N sz xb xd xe xt)) (hk : k < sz) (eK : K k = 2) (hB : zp_bk K k = b + 1) (h0 : ∀ xb xd xe xt xo, zx_Kn K N sz xb xd xe xt → ¬ (zm_1 K N sz k b ∧ zm_2 K N sz k b) → post (-3) (nI sz, 1, xk, xn, xb, xd, xe, xt, xo)) (h1 : zm_1 K N sz k b ∧ zm_2 K N sz k b → ∀ xk xn xb xd xe xt xo, zb_At xk (fun i => K (zm_O b k i)) → zb_At xn (fun i => N (zm_O b k i)) → post (nI b) (nI sz, 0, xk, xn, xb, xd, xe, xt, xo)) : wpX_moveOut post (nI sz, kn, xk, xn, xb, xd, xe, xt, xo) (nI k) := by
  have hs := hO.1
  have bk := (zp_bks hB).1
  unfold wpX_moveOut
  refine zx_isA1 2 hs hK hk (by decide) eK (br_f zx_10 ?_)
  refine zx_learn hO hK hN hkn (fun xb xd xe xt xo hk' => ⟨zb_in (by omega), nm_r (e' := zb_I (b + 1)) (by rw [zb_rdI (by omega) (hk'.1 k hk).1, hB]) ?_⟩)
  refine br_f (fun z => by have := (zb_eqIm (s := b + 1) (by omega)).mp z; omega) ?_
  refine zx_lo hO hK hN hk' hk eK hB (fun xb xd xe xt xo hk' g => br_f zx_10 ⟨zb_in (by omega), nm_r (zb_rd hN (by omega)) ⟨k + 1, ?_⟩⟩) (fun xb xd xe xt xo hk' g => br_t rfl (h0 _ _ _ _ _ hk' g))
  exact zx_mo50 hO hk eK bk (fun xk xn a c => h1 g xk xn _ _ _ _ _ a c) (k + 1) k xk xn (by omega) (by omega) (by omega) (zm_S0 hK) (zm_S0 hN)
theorem zx_moo {post : Int32 → SX → Prop} {k : Nat} (hO : zp_Ok K N sz) (hK : zb_At xk K) (hN : zb_At xn N) (hkn : kn = 0 ∨ (kn = 1 ∧ zx_Kn K N sz xb xd xe xt)) (hk : k < sz) (eK : K k = 2) (hB : zp_bk K k = 0) (h0 : ∀ xb xd xe xt xo, zx_Kn K N sz xb xd xe xt → post (-1) (nI sz, 1, xk, xn, xb, xd, xe, xt, xo)) : wpX_moveOut post (nI sz, kn, xk, xn, xb, xd, xe, xt, xo) (nI k) := by
  have hs := hO.1
  unfold wpX_moveOut
  refine zx_isA1 2 hs hK hk (by decide) eK (br_f zx_10 ?_)
  refine zx_learn hO hK hN hkn (fun xb xd xe xt xo hk' => ⟨zb_in (by omega), nm_r (e' := zb_I 0) (by rw [zb_rdI (by omega) (hk'.1 k hk).1, hB]) ?_⟩)
  exact br_t rfl (h0 _ _ _ _ _ hk')
theorem zx_mo0 {post : Int32 → SX → Prop} {k : Nat} (hO : zp_Ok K N sz) (hK : zb_At xk K) (hN : zb_At xn N) (hk : k < sz) (e : K k ≠ 2) (h : post (-1) (nI sz, kn, xk, xn, xb, xd, xe, xt, xo)) : wpX_moveOut post (nI sz, kn, xk, xn, xb, xd, xe, xt, xo) (nI k) := by
  unfold wpX_moveOut
  exact zx_isA0 2 hO.1 hK hO.2.1 hk (by decide) e (br_t rfl h)
theorem zx_mob {post : Int32 → SX → Prop} {p : Int32} (hp : p < 0 ∨ nI sz ≤ p) (h : post (-1) (nI sz, kn, xk, xn, xb, xd, xe, xt, xo)) : wpX_moveOut post (nI sz, kn, xk, xn, xb, xd, xe, xt, xo) p := by
  unfold wpX_moveOut
  exact zx_isAb hp (br_t rfl h)
theorem zx_cm {post : Int32 → SX → Prop} {k b : Nat} (hO : zp_Ok K N sz) (hK : zb_At xk K) (hN : zb_At xn N) (hkn : kn = 0 ∨ (kn = 1 ∧ zx_Kn K N sz xb xd xe xt)) (hk : k < sz) (eK : K k = 2) (hB : zp_bk K k = b + 1) (h0 : ∀ xb xd xe xt xo, zx_Kn K N sz xb xd xe xt → ¬ (zm_1 K N sz k b ∧ zm_2 K N sz k b) → post 0 (nI sz, 1, xk, xn, xb, xd, xe, xt, xo)) (h1 : ∀ xb xd xe xt xo, zx_Kn K N sz xb xd xe xt → zm_1 K N sz k b ∧ zm_2 K N sz k b → post 1 (nI sz, 1, xk, xn, xb, xd, xe, xt, xo)) : wpX_canMoveOut post (nI sz, kn, xk, xn, xb, xd, xe, xt, xo) (nI k) := by
  have hs := hO.1
  have bk := (zp_bks hB).1
  unfold wpX_canMoveOut
  refine zx_isA1 2 hs hK hk (by decide) eK (br_f zx_10 ?_)
  refine zx_learn hO hK hN hkn (fun xb xd xe xt xo hk' => ⟨zb_in (by omega), ?_⟩)
  rw [zb_rdI (by omega) (hk'.1 k hk).1, hB]
  refine br_f (fun z => by have := (zb_eqIm (s := b + 1) (by omega)).mp z; omega) ?_
  exact zx_lo hO hK hN hk' hk eK hB (fun xb xd xe xt xo hk' g => br_f zx_10 (h1 _ _ _ _ _ hk' g)) (fun xb xd xe xt xo hk' g => br_t rfl (h0 _ _ _ _ _ hk' g))
theorem zx_cmo {post : Int32 → SX → Prop} {k : Nat} (hO : zp_Ok K N sz) (hK : zb_At xk K) (hN : zb_At xn N) (hkn : kn = 0 ∨ (kn = 1 ∧ zx_Kn K N sz xb xd xe xt)) (hk : k < sz) (eK : K k = 2) (hB : zp_bk K k = 0) (h0 : ∀ xb xd xe xt xo, zx_Kn K N sz xb xd xe xt → post 0 (nI sz, 1, xk, xn, xb, xd, xe, xt, xo)) : wpX_canMoveOut post (nI sz, kn, xk, xn, xb, xd, xe, xt, xo) (nI k) := by
  have hs := hO.1
  unfold wpX_canMoveOut
  refine zx_isA1 2 hs hK hk (by decide) eK (br_f zx_10 ?_)
  refine zx_learn hO hK hN hkn (fun xb xd xe xt xo hk' => ⟨zb_in (by omega), ?_⟩)
  rw [zb_rdI (by omega) (hk'.1 k hk).1, hB]
  exact br_t rfl (h0 _ _ _ _ _ hk')
theorem zx_cm0 {post : Int32 → SX → Prop} {k : Nat} (hO : zp_Ok K N sz) (hK : zb_At xk K) (hN : zb_At xn N) (hk : k < sz) (e : K k ≠ 2) (h : post 0 (nI sz, kn, xk, xn, xb, xd, xe, xt, xo)) : wpX_canMoveOut post (nI sz, kn, xk, xn, xb, xd, xe, xt, xo) (nI k) := by
  unfold wpX_canMoveOut
  exact zx_isA0 2 hO.1 hK hO.2.1 hk (by decide) e (br_t rfl h)
theorem zx_cmb {post : Int32 → SX → Prop} {p : Int32} (hp : p < 0 ∨ nI sz ≤ p) (h : post 0 (nI sz, kn, xk, xn, xb, xd, xe, xt, xo)) : wpX_canMoveOut post (nI sz, kn, xk, xn, xb, xd, xe, xt, xo) p := by
  unfold wpX_canMoveOut
  exact zx_isAb hp (br_t rfl h)
end
end
section
/-! the reference: methods -/
section
variable {K N : Nat → Nat} {sz : Nat} {yk yn ck cn co aw : Nat → Int32}
theorem zy_is1 {post : Int32 → Prop} {j : Nat} (hs : sz ≤ 28) (hj : j < sz) (h : post 1) : wpY_is post (nI sz, yk, yn, ck, cn, co, aw) (nI j) :=
  br_f (nI_pos (by omega)) (br_f (nI_ge hj (by omega)) h)
theorem zy_is0 {post : Int32 → Prop} {p : Int32} (hp : p < 0 ∨ nI sz ≤ p) (h : post 0) : wpY_is post (nI sz, yk, yn, ck, cn, co, aw) p := by
  rcases Classical.em (p < 0) with z | z
  · exact br_t z h
  · exact br_f z (br_t (hp.resolve_left z) h)
theorem zy_de1 {post : Int32 → Prop} {j : Nat} (hO : zp_Ok K N sz) (hK : zb_At yk K) (hN : zb_At yn N) (hj : j < sz) (e : K j = 2) (h : post 1) : wpY_declares post (nI sz, yk, yn, ck, cn, co, aw) (nI j) := by
  have hs := hO.1
  unfold wpY_declares
  exact zy_is1 hs hj (br_f zx_10 ⟨zb_in (by omega), br_t ((zb_k 2 hK (by omega) (by omega) (by decide)).mpr e) h⟩)
theorem zy_de0 {post : Int32 → Prop} {j : Nat} (hO : zp_Ok K N sz) (hK : zb_At yk K) (hN : zb_At yn N) (hj : j < sz) (e : K j ≠ 2) (h : post 0) : wpY_declares post (nI sz, yk, yn, ck, cn, co, aw) (nI j) := by
  have hs := hO.1
  have k3 := hO.2.1 j (by omega)
  unfold wpY_declares
  exact zy_is1 hs hj (br_f zx_10 ⟨zb_in (by omega), br_f (fun z => e ((zb_k 2 hK (by omega) (by omega) (by decide)).mp z)) h⟩)
theorem zy_deb {post : Int32 → Prop} {p : Int32} (hp : p < 0 ∨ nI sz ≤ p) (h : post 0) : wpY_declares post (nI sz, yk, yn, ck, cn, co, aw) p := by
  unfold wpY_declares
  exact zy_is0 hp (br_t rfl h)
theorem zy_tok1 {post : Int32 → Prop} {j : Nat} (hO : zp_Ok K N sz) (hK : zb_At yk K) (hN : zb_At yn N) (hj : j < sz) (h : post (nI (K j) + 4 * nI (N j))) : wpY_token post (nI sz, yk, yn, ck, cn, co, aw) (nI j) := by
  have hs := hO.1
  unfold wpY_token
  refine zy_is1 hs hj (br_f zx_10 ⟨zb_in (by omega), zb_in (by omega), ?_⟩)
  rw [zb_rd hK (by omega), zb_rd hN (by omega)]
  exact h
theorem zy_tok0 {post : Int32 → Prop} {p : Int32} (hp : p < 0 ∨ nI sz ≤ p) (h : post (-1)) : wpY_token post (nI sz, yk, yn, ck, cn, co, aw) p := by
  unfold wpY_token
  exact zy_is0 hp (br_t rfl h)
theorem zy_op4 {post : Int32 → Prop} (hO : zp_Ok K N sz) (hK : zb_At yk K) (hN : zb_At yn N) (h : post (nI (zp_dp K sz))) : ∀ n i, i ≤ sz → sz - i < n → wY_open_4 post (nI sz) yk yn ck cn co aw n (nI (zp_dp K i)) (nI i) := by
  intro n
  have hs := hO.1
  induction n with
  | zero => intro i _ z; omega
  | succ n ih =>
    intro i hi hn
    refine zb_if (nI_leI (by omega) (by omega)) (fun z => ?_) (fun z => ⟨zb_in (by omega), ?_⟩)
    · have : i = sz := by omega
      subst this; exact h
    · have k3 := hO.2.1 i (by omega)
      have w := ih (i + 1) (by omega) (by omega)
      refine zb_if (zb_k 0 hK (by omega) (by omega) (by decide)) (fun a => ?_) (fun a => ⟨zb_in (by omega), zb_if (zb_k 1 hK (by omega) (by omega) (by decide)) (fun a1 => ?_) (fun a1 => ?_)⟩)
      · rw [zp_d0 a] at w
        exact nm_r (nI_1 _) (nm_r (nI_1 _) w)
      · have p := hO.2.2.2 i (by omega) a1
        obtain ⟨q, eq⟩ : ∃ q, zp_dp K i = q + 1 := ⟨zp_dp K i - 1, by omega⟩
        rw [zp_d1 a1, eq] at w
        rw [eq]
        exact nm_r (nI_pred q) (nm_r (nI_1 _) w)
      · rw [zp_d2 a a1] at w
        exact nm_r (nI_1 _) w
theorem zy_op {post : Int32 → Prop} (hO : zp_Ok K N sz) (hK : zb_At yk K) (hN : zb_At yn N) (h : post (nI (zp_dp K sz))) : wpY_open post (nI sz, yk, yn, ck, cn, co, aw) :=
  ⟨sz + 1, zy_op4 hO hK hN h (sz + 1) 0 (by omega) (by omega)⟩
theorem zy_bd1 {post : Int32 → SY → Prop} {j : Nat} (hO : zp_Ok K N sz) (hK : zb_At yk K) (hN : zb_At yn N) (hj : j < sz) (h : ∀ ck cn co aw, post (zb_I (zp_B K N j)) (nI sz, yk, yn, ck, cn, co, aw)) : wpY_bound post (nI sz, yk, yn, ck, cn, co, aw) (nI j) := by
  have hs := hO.1
  unfold wpY_bound
  refine zy_ba hO hK hN (fun ck cn co aw hC hD hE hW => ?_)
  refine zy_is1 hs hj (br_f zx_10 ⟨zb_in (by omega), ?_⟩)
  rw [zb_rdI (by omega) (hW j hj)]
  exact h _ _ _ _
theorem zy_bdb {post : Int32 → SY → Prop} {p : Int32} (hO : zp_Ok K N sz) (hK : zb_At yk K) (hN : zb_At yn N) (hp : p < 0 ∨ nI sz ≤ p) (h : ∀ ck cn co aw, post (-1) (nI sz, yk, yn, ck, cn, co, aw)) : wpY_bound post (nI sz, yk, yn, ck, cn, co, aw) p := by
  unfold wpY_bound
  exact zy_ba hO hK hN (fun ck cn co aw hC hD hE hW => zy_is0 hp (br_t rfl (h _ _ _ _)))
theorem zy_us8 {post : Int32 → SY → Prop} {k : Nat} (hs : sz ≤ 28) (hk : k < sz) (hT : ∀ u, u < sz → aw u = zb_I (zp_B K N u)) (h : post (zb_S (fun u => zp_B K N u = k + 1) sz) (nI sz, yk, yn, ck, cn, co, aw)) : ∀ n i, i ≤ sz → sz - i < n → wY_uses_8 post (nI k) (nI sz) yk yn ck cn co aw n (zb_S (fun u => zp_B K N u = k + 1) i) (nI i) := by
  intro n
  induction n with
  | zero => intro i _ z; omega
  | succ n ih =>
    intro i hi hn
    refine zb_if (nI_leI (by omega) (by omega)) (fun z => ?_) (fun z => ?_)
    · have : i = sz := by omega
      subst this; exact h
    · have w := ih (i + 1) (by omega) (by omega)
      have lB := zp_Bl (K := K) (N := N) (u := i)
      refine zy_is1 hs hk (br_f zx_10 ⟨zb_in (by omega), ?_⟩)
      rw [zb_rdI (by omega) (hT i (by omega))]
      refine zb_if (zb_eqIN (by omega) (by omega)) (fun e => ?_) (fun e => ?_)
      · rw [zb_St (P := fun u => zp_B K N u = k + 1) e] at w
        exact nm_e (nm_r (nI_1 _) w)
      · rw [zb_Sf (P := fun u => zp_B K N u = k + 1) e] at w
        exact nm_r (nI_1 _) w
theorem zy_us {post : Int32 → SY → Prop} {k : Nat} (hO : zp_Ok K N sz) (hK : zb_At yk K) (hN : zb_At yn N) (hk : k < sz) (h : ∀ ck cn co aw, post (zb_S (fun u => zp_B K N u = k + 1) sz) (nI sz, yk, yn, ck, cn, co, aw)) : wpY_uses post (nI sz, yk, yn, ck, cn, co, aw) (nI k) := by
  unfold wpY_uses
  refine zy_ba hO hK hN (fun ck cn co aw hC hD hE hW => ⟨sz + 1, ?_⟩)
  exact zy_us8 hO.1 hk hW (h _ _ _ _) (sz + 1) 0 (by omega) (by omega)
theorem zy_usb {post : Int32 → SY → Prop} {p : Int32} (hO : zp_Ok K N sz) (hK : zb_At yk K) (hN : zb_At yn N) (hp : p < 0 ∨ nI sz ≤ p) (h : ∀ ck cn co aw, post 0 (nI sz, yk, yn, ck, cn, co, aw)) : wpY_uses post (nI sz, yk, yn, ck, cn, co, aw) p := by
  unfold wpY_uses
  exact zy_ba hO hK hN (fun ck cn co aw hC hD hE hW => ⟨1, br_c (fun _ => h _ _ _ _) (fun _ => zy_is0 hp (br_t rfl (h _ _ _ _)))⟩)
/-- a place that is no declaration has no uses -/
theorem zy_us0 {k : Nat} (hs : sz ≤ 28) (e : K k ≠ 2) : (zb_S (fun u => zp_B K N u = k + 1) sz) = 0 :=
  (zb_S0 sz (by omega)).mpr (fun i _ z => e (zp_Bs z).2.2.1)
theorem zy_fr8 {post : Int32 → SY → Prop} (hO : zp_Ok K N sz) (hK : zb_At yk K) (hN : zb_At yn N) (hT : ∀ u, u < sz → aw u = zb_I (zp_B K N u)) (h : post (zb_S (fun u => K u = 3 ∧ zp_B K N u = 0) sz) (nI sz, yk, yn, ck, cn, co, aw)) : ∀ n i, i ≤ sz → sz - i < n → wY_free_8 post (nI sz) yk yn ck cn co aw n (zb_S (fun u => K u = 3 ∧ zp_B K N u = 0) i) (nI i) := by
  intro n
  have hs := hO.1
  induction n with
  | zero => intro i _ z; omega
  | succ n ih =>
    intro i hi hn
    refine zb_if (nI_leI (by omega) (by omega)) (fun z => ?_) (fun z => ⟨zb_in (by omega), ?_⟩)
    · have : i = sz := by omega
      subst this; exact h
    · have w := ih (i + 1) (by omega) (by omega)
      have k3 := hO.2.1 i (by omega)
      have lB := zp_Bl (K := K) (N := N) (u := i)
      rw [zb_rdI (by omega) (hT i (by omega))]
      have hno : ¬ (K i = 3 ∧ zp_B K N i = 0) → wY_free_8 post (nI sz) yk yn ck cn co aw n (zb_S (fun u => K u = 3 ∧ zp_B K N u = 0) i) (nI (i + 1)) := by
        intro e
        rw [zb_Sf (P := fun u => K u = 3 ∧ zp_B K N u = 0) e] at w
        exact w
      refine zb_if (zb_k 3 hK (by omega) (by omega) (by decide)) (fun a => ⟨zb_in (by omega), zb_if (zb_le0I (by omega)) (fun b => ?_) (fun b => ?_)⟩) (fun a => ?_)
      · exact nm_r (nI_1 _) (hno (fun e => by omega))
      · rw [zb_St (P := fun u => K u = 3 ∧ zp_B K N u = 0) ⟨a, by omega⟩] at w
        exact nm_e (nm_r (nI_1 _) w)
      · exact nm_r (nI_1 _) (hno (fun e => a e.1))
theorem zy_fr {post : Int32 → SY → Prop} (hO : zp_Ok K N sz) (hK : zb_At yk K) (hN : zb_At yn N) (h : ∀ ck cn co aw, post (zb_S (fun u => K u = 3 ∧ zp_B K N u = 0) sz) (nI sz, yk, yn, ck, cn, co, aw)) : wpY_free post (nI sz, yk, yn, ck, cn, co, aw) := by
  unfold wpY_free
  refine zy_ba hO hK hN (fun ck cn co aw hC hD hE hW => ⟨sz + 1, ?_⟩)
  exact zy_fr8 hO hK hN hW (h _ _ _ _) (sz + 1) 0 (by omega) (by omega)
theorem zy_un4 {post : Int32 → SY → Prop} (hO : zp_Ok K N sz) (hK : zb_At yk K) (hN : zb_At yn N) (h : ∀ ck cn co aw, post (zb_S (fun k => K k = 2 ∧ (zb_S (fun u => zp_B K N u = k + 1) sz) = 0) sz) (nI sz, yk, yn, ck, cn, co, aw)) : ∀ n i ck cn co aw, i ≤ sz → sz - i < n → wY_unused_4 post n (zb_S (fun k => K k = 2 ∧ (zb_S (fun u => zp_B K N u = k + 1) sz) = 0) i) (nI i) (nI sz) yk yn ck cn co aw := by
  intro n
  have hs := hO.1
  induction n with
  | zero => intro i _ _ _ _ _ z; omega
  | succ n ih =>
    intro i ck cn co aw hi hn
    refine zb_if (nI_leI (by omega) (by omega)) (fun z => ?_) (fun z => ⟨zb_in (by omega), ?_⟩)
    · have : i = sz := by omega
      subst this; exact h _ _ _ _
    · have k3 := hO.2.1 i (by omega)
      refine zb_if (zb_k 2 hK (by omega) (by omega) (by decide)) (fun a => ?_) (fun a => ?_)
      · refine zy_us hO hK hN (by omega) (fun ck cn co aw => ?_)
        have w := ih (i + 1) ck cn co aw (by omega) (by omega)
        refine zb_if Iff.rfl (fun e => ?_) (fun e => ?_)
        · rw [zb_St (P := fun k => K k = 2 ∧ (zb_S (fun u => zp_B K N u = k + 1) sz) = 0) ⟨a, e⟩] at w
          exact nm_e (nm_r (nI_1 _) w)
        · rw [zb_Sf (P := fun k => K k = 2 ∧ (zb_S (fun u => zp_B K N u = k + 1) sz) = 0) (fun v => e v.2)] at w
          exact nm_r (nI_1 _) w
      · have w := ih (i + 1) ck cn co aw (by omega) (by omega)
        rw [zb_Sf (P := fun k => K k = 2 ∧ (zb_S (fun u => zp_B K N u = k + 1) sz) = 0) (fun v => a v.1)] at w
        exact nm_r (nI_1 _) w
theorem zy_un {post : Int32 → SY → Prop} (hO : zp_Ok K N sz) (hK : zb_At yk K) (hN : zb_At yn N) (h : ∀ ck cn co aw, post (zb_S (fun k => K k = 2 ∧ (zb_S (fun u => zp_B K N u = k + 1) sz) = 0) sz) (nI sz, yk, yn, ck, cn, co, aw)) : wpY_unused post (nI sz, yk, yn, ck, cn, co, aw) :=
  ⟨sz + 1, zy_un4 hO hK hN h (sz + 1) 0 ck cn co aw (by omega) (by omega)⟩
/-! depth and visible -/
theorem zy_dp22 {post : Int32 → SY → Prop} {j : Nat} (hO : zp_Ok K N sz) (hC : zb_At ck K) (hj : j < sz) (h : post (nI (zp_dp K j)) (nI sz, yk, yn, ck, cn, co, aw)) : ∀ n l D t, l + D = zp_dp K j → D < n → zl_a (fun p => zp_dp K p < D) j = t → wY_depth_22 post (nI sz) yk yn ck cn co aw n (nI l) (zb_I t) := by
  intro n
  have hs := hO.1
  have lj := zp_le (K := K) j
  induction n with
  | zero => intro l D t _ z; omega
  | succ n ih =>
    intro l D t hl hn ht
    have tu : t ≤ j := by rw [← ht]; exact zl_le j
    have hD : D ≤ zp_dp K j := by omega
    refine zb_if (zb_ltI0 (by omega)) (fun z => ?_) (fun z => ?_)
    · subst z
      have d0 := zp_lev0 hD ht
      have e : l = zp_dp K j := by omega
      rw [e]; exact h
    · obtain ⟨b, rfl⟩ : ∃ b, t = b + 1 := ⟨t - 1, by omega⟩
      obtain ⟨a1, a2, a3, a4⟩ := zp_lev hD ht
      refine br_f (nI_ge (b := 28) (by omega) (by decide)) (nm_r (nI_1 l) ?_)
      refine zy_ar (k := b) (by omega) hC hO.2.1 (fun i hi => hO.2.2.2 i (by omega)) ?_
      exact ih (l + 1) (D - 1) _ (by omega) (by omega) (zp_nxt hD ht)
theorem zy_dep {post : Int32 → SY → Prop} {j : Nat} (hO : zp_Ok K N sz) (hK : zb_At yk K) (hN : zb_At yn N) (hj : j < sz) (h : ∀ ck cn co aw, post (nI (zp_dp K j)) (nI sz, yk, yn, ck, cn, co, aw)) : wpY_depth post (nI sz, yk, yn, ck, cn, co, aw) (nI j) := by
  have hs := hO.1
  unfold wpY_depth
  refine zy_is1 hs hj (br_f zx_10 ?_)
  refine zy_cp hK hN (fun ck cn co hC hD hE => ?_)
  refine zy_ar (by omega) hC hO.2.1 (fun i hi => hO.2.2.2 i (by omega)) ⟨zp_dp K j + 1, ?_⟩
  exact zy_dp22 hO hC hj (h _ _ _ _) (zp_dp K j + 1) 0 (zp_dp K j) _ (by omega) (by omega) rfl
theorem zy_depb {post : Int32 → SY → Prop} {p : Int32} (hp : p < 0 ∨ nI sz ≤ p) (h : post (-1) (nI sz, yk, yn, ck, cn, co, aw)) : wpY_depth post (nI sz, yk, yn, ck, cn, co, aw) p := by
  unfold wpY_depth
  exact zy_is0 hp (br_t rfl h)
theorem zy_vi8 {post : Int32 → SY → Prop} {j : Nat} (hO : zp_Ok K N sz) (hC : zb_At ck K) (hD : zb_At cn N) (hj : j < sz) (h : post (zb_S (fun n => zp_bd K N j n ≠ 0) 8) (nI sz, yk, yn, ck, cn, co, aw)) : ∀ n i, i ≤ 8 → 8 - i < n → wY_visible_8 post (nI j) (nI sz) yk yn ck cn co aw n (zb_S (fun n => zp_bd K N j n ≠ 0) i) (nI i) := by
  intro n
  have hs := hO.1
  induction n with
  | zero => intro i _ z; omega
  | succ n ih =>
    intro i hi hn
    refine zb_if (nI_leI (a := 8) (by decide) (by omega)) (fun z => ?_) (fun z => ?_)
    · have : i = 8 := by omega
      subst this; exact h
    · have w := ih (i + 1) (by omega) (by omega)
      have lb := zp_bdl (K := K) (N := N) (u := j) (n := i)
      refine zy_is1 hs hj (br_f zx_10 ?_)
      refine zy_bi (by omega) hC hD hO.2.1 hO.2.2.1 (by omega) (fun i hi => hO.2.2.2 i (by omega)) ?_
      refine zb_if (zb_ltI0 (by omega)) (fun e => ?_) (fun e => ?_)
      · rw [zb_Sf (P := fun n => zp_bd K N j n ≠ 0) (fun v => v e)] at w
        exact nm_r (nI_1 _) w
      · rw [zb_St (P := fun n => zp_bd K N j n ≠ 0) e] at w
        exact nm_e (nm_r (nI_1 _) w)
theorem zy_vi {post : Int32 → SY → Prop} {j : Nat} (hO : zp_Ok K N sz) (hK : zb_At yk K) (hN : zb_At yn N) (hj : j < sz) (h : ∀ ck cn co aw, post (zb_S (fun n => zp_bd K N j n ≠ 0) 8) (nI sz, yk, yn, ck, cn, co, aw)) : wpY_visible post (nI sz, yk, yn, ck, cn, co, aw) (nI j) := by
  unfold wpY_visible
  refine zy_cp hK hN (fun ck cn co hC hD hE => ⟨9, ?_⟩)
  exact zy_vi8 hO hC hD hj (h _ _ _ _) 9 0 (by omega) (by omega)
theorem zy_vib {post : Int32 → SY → Prop} {p : Int32} (hO : zp_Ok K N sz) (hK : zb_At yk K) (hN : zb_At yn N) (hp : p < 0 ∨ nI sz ≤ p) (h : ∀ ck cn co aw, post 0 (nI sz, yk, yn, ck, cn, co, aw)) : wpY_visible post (nI sz, yk, yn, ck, cn, co, aw) p := by
  unfold wpY_visible
  refine zy_cp hK hN (fun ck cn co hC hD hE => ⟨1, ?_⟩)
  exact br_f (nI_ge (a := 0) (b := 8) (by decide) (by decide)) (zy_is0 hp (br_t rfl (h _ _ _ _)))
end
end
section
/-! the reference: changes -/
section
variable {K N : Nat → Nat} {sz : Nat} {yk yn ck cn co aw : Nat → Int32}
theorem zy_rd6 {post : Int32 → SY → Prop} {k m : Nat} (hO : zp_Ok K N sz) (hC : zb_At ck K) (hE : zb_At co (fun i => i)) (hW : ∀ u, u < sz → aw u = zb_I (zp_B K N u)) (hk : k < sz) (hm : m ≤ 7) (h1 : zp_Lg K (zn_N K N sz k m) (fun i => i) (zp_B K N) sz → ∀ cn, zb_At cn (zn_N K N sz k m) → post 1 (nI sz, yk, yn, ck, cn, co, aw)) (h0 : ¬ zp_Lg K (zn_N K N sz k m) (fun i => i) (zp_B K N) sz → ∀ cn, zb_At cn (zn_N K N sz k m) → post 0 (nI sz, yk, yn, ck, cn, co, aw)) : ∀ n i cn, i ≤ sz → sz - i < n → zb_At cn (zr_M i (zn_N K N sz k m) N) → wY_renamed_6 post (nI k) (nI m) (nI sz) n (nI i) yk yn ck cn co aw := by
  intro n
  have hs := hO.1
  induction n with
  | zero => intro i _ _ z; omega
  | succ n ih =>
    intro i cn hi hn hA
    refine zb_if (nI_leI (by omega) (by omega)) (fun z => ?_) (fun z => ?_)
    · have : i = sz := by omega
      subst this
      have hA' : zb_At cn (zn_N K N i k m) := by
        intro j hj
        rw [hA j hj]
        rcases Nat.lt_or_ge j i with y | y
        · rw [zr_Mt y]
        · rw [zr_Mf (by omega)]
          unfold zn_N
          rw [if_neg (fun w => by omega)]
      exact zy_lg (O := fun i => i) (W := zp_B K N) (zn_Ok hO hm) hC hA' hE (fun j hj => hj) hW (fun j hj => Nat.le_trans zp_Bl (by omega)) (fun g => ⟨narrow_b1, h1 g cn hA'⟩) (fun g => ⟨narrow_b0, h0 g cn hA'⟩)
    · have n7 := hO.2.2.1 i (by omega)
      have lB := zp_Bl (K := K) (N := N) (u := i)
      have st : zb_At (upd cn i (nI (zn_N K N sz k m i))) (zr_M (i + 1) (zn_N K N sz k m) N) := by
        intro j hj
        rcases Classical.em (j = i) with e | e
        · subst e
          rw [pk_us, zr_Mt (by omega)]
        · rw [pk_un e, hA j hj]
          rcases Nat.lt_or_ge j i with y | y
          · rw [zr_Mt y, zr_Mt (by omega)]
          · rw [zr_Mf (by omega), zr_Mf (by omega)]
      have w := ih (i + 1) _ (by omega) (by omega) st
      have ci : cn i = nI (N i) := by rw [hA i (by omega), zr_Mf (by omega)]
      refine zb_if (nI_eq (by omega) (by omega)) (fun e => ?_) (fun e => ⟨zb_in (by omega), ?_⟩)
      · rw [zn_Nt (by omega) (Or.inl e)] at w
        exact ⟨zb_in (by omega), nm_r (e' := upd cn i (nI m)) (by rw [zb_c (by omega)]) (nm_r (nI_1 _) w)⟩
      · rw [zb_rdI (by omega) (hW i (by omega))]
        refine zb_if (zb_eqIN (by omega) (by omega)) (fun b => ?_) (fun b => ?_)
        · rw [zn_Nt (by omega) (Or.inr b)] at w
          exact ⟨zb_in (by omega), nm_r (e' := upd cn i (nI m)) (by rw [zb_c (by omega)]) (nm_r (nI_1 _) w)⟩
        · rw [zn_Nf e b] at w
          exact ⟨zb_in (by omega), zb_in (by omega), nm_r (e' := upd cn i (nI (N i))) (by rw [zb_c (by omega), ci]) (nm_r (nI_1 _) w)⟩
theorem zy_rd {post : Int32 → SY → Prop} {k m : Nat} (hO : zp_Ok K N sz) (hK : zb_At yk K) (hN : zb_At yn N) (hk : k < sz) (hm : m ≤ 7) (h1 : zp_Lg K (zn_N K N sz k m) (fun i => i) (zp_B K N) sz → ∀ ck cn co aw, zb_At ck K → zb_At cn (zn_N K N sz k m) → post 1 (nI sz, yk, yn, ck, cn, co, aw)) (h0 : ¬ zp_Lg K (zn_N K N sz k m) (fun i => i) (zp_B K N) sz → ∀ ck cn co aw, zb_At ck K → zb_At cn (zn_N K N sz k m) → post 0 (nI sz, yk, yn, ck, cn, co, aw)) : wpY_renamed post (nI sz, yk, yn, ck, cn, co, aw) (nI k) (nI m) := by
  unfold wpY_renamed
  refine zy_ba hO hK hN (fun ck cn co aw hC hD hE hW => ⟨sz + 1, ?_⟩)
  exact zy_rd6 hO hC hE hW hk hm (fun g cn a => h1 g _ _ _ _ hC a) (fun g cn a => h0 g _ _ _ _ hC a) (sz + 1) 0 cn (by omega) (by omega) (fun j hj => by
    rw [zr_Mf (Nat.not_lt_zero j)]; exact hD j hj)
theorem zy_nm4 {post : Int32 → SY → Prop} {k : Nat} (hO : zp_Ok K N sz) (hK : zb_At yk K) (hN : zb_At yn N) (hk : k < sz) (eK : K k = 2) (h : ∀ ck cn co aw, post (zb_S (fun m => zp_Lg K (zn_N K N sz k m) (fun i => i) (zp_B K N) sz) 8) (nI sz, yk, yn, ck, cn, co, aw)) : ∀ n i ck cn co aw, i ≤ 8 → 8 - i < n → wY_names_4 post (nI k) n (zb_S (fun m => zp_Lg K (zn_N K N sz k m) (fun i => i) (zp_B K N) sz) i) (nI i) (nI sz) yk yn ck cn co aw := by
  intro n
  have hs := hO.1
  induction n with
  | zero => intro i _ _ _ _ _ z; omega
  | succ n ih =>
    intro i ck cn co aw hi hn
    refine zb_if (nI_leI (a := 8) (by decide) (by omega)) (fun z => ?_) (fun z => ?_)
    · have : i = 8 := by omega
      subst this; exact h _ _ _ _
    · refine zy_de1 hO hK hN hk eK (br_f zx_10 ?_)
      refine zy_rd hO hK hN hk (by omega) (fun g ck cn co aw _ _ => br_f zx_10 ?_) (fun g ck cn co aw _ _ => br_t rfl ?_)
      · have w := ih (i + 1) ck cn co aw (by omega) (by omega)
        rw [zb_St (P := fun m => zp_Lg K (zn_N K N sz k m) (fun i => i) (zp_B K N) sz) g] at w
        exact nm_e (nm_r (nI_1 _) w)
      · have w := ih (i + 1) ck cn co aw (by omega) (by omega)
        rw [zb_Sf (P := fun m => zp_Lg K (zn_N K N sz k m) (fun i => i) (zp_B K N) sz) g] at w
        exact nm_r (nI_1 _) w
theorem zy_nm {post : Int32 → SY → Prop} {k : Nat} (hO : zp_Ok K N sz) (hK : zb_At yk K) (hN : zb_At yn N) (hk : k < sz) (eK : K k = 2) (h : ∀ ck cn co aw, post (zb_S (fun m => zp_Lg K (zn_N K N sz k m) (fun i => i) (zp_B K N) sz) 8) (nI sz, yk, yn, ck, cn, co, aw)) : wpY_names post (nI sz, yk, yn, ck, cn, co, aw) (nI k) :=
  ⟨9, zy_nm4 hO hK hN hk eK h 9 0 ck cn co aw (by omega) (by omega)⟩
theorem zy_nm0 {post : Int32 → SY → Prop} {k : Nat} (hO : zp_Ok K N sz) (hK : zb_At yk K) (hN : zb_At yn N) (hk : k < sz) (e : K k ≠ 2) (h : post 0 (nI sz, yk, yn, ck, cn, co, aw)) : wpY_names post (nI sz, yk, yn, ck, cn, co, aw) (nI k) :=
  ⟨1, br_f (nI_ge (a := 0) (b := 8) (by decide) (by decide)) (zy_de0 hO hK hN hk e (br_t rfl h))⟩
theorem zy_nmb {post : Int32 → SY → Prop} {p : Int32} (hp : p < 0 ∨ nI sz ≤ p) (h : post 0 (nI sz, yk, yn, ck, cn, co, aw)) : wpY_names post (nI sz, yk, yn, ck, cn, co, aw) p :=
  ⟨1, br_f (nI_ge (a := 0) (b := 8) (by decide) (by decide)) (zy_deb hp (br_t rfl h))⟩
theorem zy_rn37 {post : Int32 → SY → Prop} {k m : Nat} (hO : zp_Ok K N sz) (hK : zb_At yk K) (hN : zb_At yn N) (hk : k < sz) (hm : m ≤ 7) (hC : zb_At ck K) (hD : zb_At cn (zn_N K N sz k m)) (h : ∀ yk yn, zb_At yk K → zb_At yn (zn_N K N sz k m) → post (nI (zr_c (fun u => zn_N K N sz k m u ≠ N u) sz)) (nI sz, yk, yn, ck, cn, co, aw)) : ∀ n i, i ≤ sz → sz - i < n → wY_rename_37 post (nI sz) yk yn ck cn co aw n (nI (zr_c (fun u => zn_N K N sz k m u ≠ N u) i)) (nI i) := by
  intro n
  have hs := hO.1
  induction n with
  | zero => intro i _ z; omega
  | succ n ih =>
    intro i hi hn
    refine zb_if (nI_leI (by omega) (by omega)) (fun z => ?_) (fun z => ⟨zb_in (by omega), zb_in (by omega), ?_⟩)
    · have : i = sz := by omega
      subst this
      refine zy_ac hs hC hD hK hN (fun j hj hz => ⟨rfl, ?_⟩) h
      unfold zn_N
      rw [if_neg (fun w => by omega)]
    · have n7 := hO.2.2.1 i (by omega)
      have m7 := (zn_Ok (k := k) (m := m) hO hm).2.2.1 i (by omega)
      have w := ih (i + 1) (by omega) (by omega)
      rw [zb_rd hD (j := i) (by omega), zb_rd hN (j := i) (by omega)]
      refine zb_if (nI_eq (by omega) (by omega)) (fun e => ?_) (fun e => ?_)
      · rw [zr_cf (P := fun u => zn_N K N sz k m u ≠ N u) (fun v => v e)] at w
        exact nm_r (nI_1 _) w
      · rw [zr_ct (P := fun u => zn_N K N sz k m u ≠ N u) e] at w
        exact nm_r (nI_1 _) (nm_r (nI_1 _) w)
theorem zy_rn {post : Int32 → SY → Prop} {k m : Nat} (hO : zp_Ok K N sz) (hK : zb_At yk K) (hN : zb_At yn N) (hk : k < sz) (eK : K k = 2) (hm : m ≤ 7) (h0 : ¬ zp_Lg K (zn_N K N sz k m) (fun i => i) (zp_B K N) sz → ∀ ck cn co aw, post (-3) (nI sz, yk, yn, ck, cn, co, aw)) (h1 : zp_Lg K (zn_N K N sz k m) (fun i => i) (zp_B K N) sz → ∀ yk yn ck cn co aw, zb_At yk K → zb_At yn (zn_N K N sz k m) → post (nI (zr_c (fun u => zn_N K N sz k m u ≠ N u) sz)) (nI sz, yk, yn, ck, cn, co, aw)) : wpY_rename post (nI sz, yk, yn, ck, cn, co, aw) (nI k) (nI m) := by
  unfold wpY_rename
  refine zy_de1 hO hK hN hk eK (br_f zx_10 (br_f (nI_pos (by omega)) (br_t (nI_le (b := 7) hm (by decide)) ?_)))
  refine zy_rd hO hK hN hk hm (fun g ck cn co aw hC hD => br_f zx_10 ⟨sz + 1, ?_⟩) (fun g ck cn co aw _ _ => br_t rfl (h0 g _ _ _ _))
  exact zy_rn37 hO hK hN hk hm hC hD (fun yk yn a b => h1 g yk yn _ _ _ _ a b) (sz + 1) 0 (by omega) (by omega)
theorem zy_rn0 {post : Int32 → SY → Prop} {k : Nat} {p : Int32} (hO : zp_Ok K N sz) (hK : zb_At yk K) (hN : zb_At yn N) (hk : k < sz) (e : K k ≠ 2) (h : post (-1) (nI sz, yk, yn, ck, cn, co, aw)) : wpY_rename post (nI sz, yk, yn, ck, cn, co, aw) (nI k) p := by
  unfold wpY_rename
  exact zy_de0 hO hK hN hk e (br_t rfl h)
theorem zy_rnb {post : Int32 → SY → Prop} {p q : Int32} (hp : p < 0 ∨ nI sz ≤ p) (h : post (-1) (nI sz, yk, yn, ck, cn, co, aw)) : wpY_rename post (nI sz, yk, yn, ck, cn, co, aw) p q := by
  unfold wpY_rename
  exact zy_deb hp (br_t rfl h)
theorem zy_rnm {post : Int32 → SY → Prop} {k : Nat} {p : Int32} (hO : zp_Ok K N sz) (hK : zb_At yk K) (hN : zb_At yn N) (hk : k < sz) (e : K k = 2) (hp : p < 0 ∨ ¬ p ≤ 7) (h : post (-1) (nI sz, yk, yn, ck, cn, co, aw)) : wpY_rename post (nI sz, yk, yn, ck, cn, co, aw) (nI k) p := by
  unfold wpY_rename
  refine zy_de1 hO hK hN hk e (br_f zx_10 ?_)
  rcases Classical.em (p < 0) with z | z
  · exact br_t z h
  · exact br_f z (br_f (hp.resolve_left z) h)
/-! swapping -/
theorem zy_swA {f : Nat → Nat} {a : Nat → Int32} {k : Nat} (hk : k + 1 < 28) (h : zb_At a f) : zb_At (upd (upd a (k + 1) (nI (f k))) k (nI (f (k + 1)))) (fun i => f (zs_O k i)) := by
  intro i hi
  show _ = nI (f (zs_O k i))
  rcases zs_cs k i with ⟨e, o⟩ | ⟨e, o⟩ | ⟨e1, e2, o⟩
  · rw [o, e, pk_us]
  · rw [o, pk_un (by omega), e, pk_us]
  · rw [o, pk_un e1, pk_un e2]; exact h i hi
theorem zy_sw {post : Int32 → SY → Prop} {k : Nat} (hO : zp_Ok K N sz) (hK : zb_At yk K) (hN : zb_At yn N) (hk : k + 1 < sz) (h2 : 2 ≤ K k) (h3 : 2 ≤ K (k + 1)) (h0 : zs_bad K N sz k → ∀ ck cn co aw, post (-3) (nI sz, yk, yn, ck, cn, co, aw)) (h1 : ¬ zs_bad K N sz k → ∀ yk yn ck cn co aw, zb_At yk (fun i => K (zs_O k i)) → zb_At yn (fun i => N (zs_O k i)) → post (nI k) (nI sz, yk, yn, ck, cn, co, aw)) : wpY_swap post (nI sz, yk, yn, ck, cn, co, aw) (nI k) := by
  have hs := hO.1
  have a3 := hO.2.1 k (by omega)
  have b3 := hO.2.1 (k + 1) (by omega)
  unfold wpY_swap
  dsimp only
  rw [nI_1 k, zb_rd hK (j := k) (by omega), zb_rd hK (j := k + 1) (by omega)]
  refine zy_is1 hs (by omega) (br_f zx_10 (zy_is1 hs hk (br_f zx_10 ⟨zb_in (by omega), br_f (nI_nlt (b := 2) h2 (by omega)) ⟨zb_in (by omega), br_t (nI_le (a := 2) h3 (by omega)) ?_⟩⟩)))
  refine zy_ba hO hK hN (fun ck cn co aw hC hD hE hW => ?_)
  refine zy_pl (by omega) (by omega) hK hN ?_
  refine zy_pl (by omega) (by omega) hK hN ?_
  have hl := zs_law (N := N) hk h2 h3
  have hC' := zy_swA (k := k) (by omega) hC
  have hD' := zy_swA (k := k) (by omega) hD
  have hE' := zy_swA (k := k) (by omega) hE
  refine zy_lg (O := zs_O k) (W := zp_B K N) (zs_Ok hO hk h2 h3) hC' hD' hE' (fun i hi => by have := zs_cs k i; omega) hW (fun j hj => Nat.le_trans zp_Bl (by omega)) (fun g => br_f zx_10 ?_) (fun g => br_t rfl (h0 ?_ _ _ _ _))
  · refine zy_ac hs hC' hD' hK hN (fun j hj hz => ?_) (fun yk yn a b => h1 (hl.mp g) yk yn _ _ _ _ a b)
    rw [zs_o (by omega) (by omega)]
    exact ⟨rfl, rfl⟩
  · rcases Classical.em (zs_bad K N sz k) with w | w
    · exact w
    · exact absurd (hl.mpr w) g
theorem zy_swb {post : Int32 → SY → Prop} {p : Int32} (hp : p < 0 ∨ nI sz ≤ p) (h : post (-1) (nI sz, yk, yn, ck, cn, co, aw)) : wpY_swap post (nI sz, yk, yn, ck, cn, co, aw) p := by
  unfold wpY_swap
  exact zy_is0 hp (br_t rfl h)
theorem zy_sw0 {post : Int32 → SY → Prop} {k : Nat} (hO : zp_Ok K N sz) (hK : zb_At yk K) (hN : zb_At yn N) (hk : k < sz) (hc : sz ≤ k + 1 ∨ (k + 1 < sz ∧ (K k < 2 ∨ K (k + 1) < 2))) (h : post (-1) (nI sz, yk, yn, ck, cn, co, aw)) : wpY_swap post (nI sz, yk, yn, ck, cn, co, aw) (nI k) := by
  have hs := hO.1
  unfold wpY_swap
  dsimp only
  rw [nI_1 k]
  refine zy_is1 hs hk (br_f zx_10 ?_)
  rcases hc with c | ⟨c, d⟩
  · exact zy_is0 (Or.inr (nI_le c (by omega))) (br_t rfl h)
  · have a3 := hO.2.1 k (by omega)
    have b3 := hO.2.1 (k + 1) (by omega)
    refine zy_is1 hs c (br_f zx_10 ⟨zb_in (by omega), ?_⟩)
    rw [zb_rd hK (j := k) (by omega), zb_rd hK (j := k + 1) (by omega)]
    refine zb_if (nI_ltI (b := 2) (by omega) (by decide)) (fun _ => h) (fun e => ⟨zb_in (by omega), br_f (nI_ge (b := 2) (by omega) (by decide)) h⟩)
/-! moving out -/
def zm_T (f : Nat → Nat) (b k i j : Nat) : Nat := if j = b then f k else if b < j ∧ j ≤ i then f (j - 1) else f j
theorem zm_T0 {f : Nat → Nat} {a : Nat → Int32} {b k : Nat} (hb : b < k) (hk : k < 28) (h : zb_At a f) : zb_At (upd a b (nI (f k))) (zm_T f b k b) := by
  intro j hj
  unfold zm_T
  rcases Classical.em (j = b) with e | e
  · rw [if_pos e, e, pk_us]
  · rw [if_neg e, if_neg (by omega), pk_un e]; exact h j hj
theorem zm_Ts {f : Nat → Nat} {a : Nat → Int32} {b k i : Nat} (bi : b ≤ i) (hi : i < k) (hk : k < 28) (h : zb_At a (zm_T f b k i)) : zb_At (upd a (i + 1) (nI (f i))) (zm_T f b k (i + 1)) := by
  intro j hj
  have hj' := h j hj
  unfold zm_T at hj' ⊢
  rcases Classical.em (j = i + 1) with e | e
  · rw [if_neg (by omega), if_pos (by omega), e, pk_us]
    rfl
  · rw [pk_un e, hj']
    rcases Classical.em (j = b) with y | y
    · rw [if_pos y, if_pos y]
    · rw [if_neg y, if_neg y]
      rcases Classical.em (b < j ∧ j ≤ i) with x | x
      · rw [if_pos x, if_pos (by omega)]
      · rw [if_neg x, if_neg (by omega)]
theorem zm_Te {f : Nat → Nat} {a : Nat → Int32} {b k : Nat} (h : zb_At a (zm_T f b k k)) : zb_At a (fun i => f (zm_O b k i)) := by
  intro j hj
  rw [h j hj]
  show _ = nI (f (zm_O b k j))
  unfold zm_T zm_O
  rcases Classical.em (j = b) with y | y
  · rw [if_pos y, if_pos y]
  · rw [if_neg y, if_neg y]
    rcases Classical.em (b < j ∧ j ≤ k) with x | x
    · rw [if_pos x, if_pos x]
    · rw [if_neg x, if_neg x]
/-- the copy with k moved to b -/
def zm_Cp (K N : Nat → Nat) (b k i : Nat) (ck cn co : Nat → Int32) : Prop := zb_At ck (zm_T K b k i) ∧ zb_At cn (zm_T N b k i) ∧ zb_At co (zm_T (fun i => i) b k i)
theorem zy_mlg {post : Int32 → Prop} {b k : Nat} (hO : zp_Ok K N sz) (hk : k < sz) (eK : K k = 2) (hB : zp_bk K k = b + 1) (hW : ∀ u, u < sz → aw u = zb_I (zp_B K N u)) (hA : zm_Cp K N b k k ck cn co) (h1 : zm_1 K N sz k b ∧ zm_2 K N sz k b → post 1) (h0 : ¬ (zm_1 K N sz k b ∧ zm_2 K N sz k b) → post 0) : wpY_legal post (nI sz, yk, yn, ck, cn, co, aw) := by
  have hs := hO.1
  have hl := zm_law (N := N) hk hB eK
  have bk := (zp_bks hB).1
  exact zy_lg (O := zm_O b k) (W := zp_B K N) (zm_Ok hO hk bk eK) (zm_Te hA.1) (zm_Te hA.2.1) (zm_Te hA.2.2) (fun i hi => by have := zm_cs b k i; omega) hW (fun j hj => Nat.le_trans zp_Bl (by omega)) (fun g => h1 (hl.mp g)) (fun g => h0 (fun w => g (hl.mpr w)))
theorem zy_mo36 {post : Int32 → SY → Prop} {b k : Nat} (hO : zp_Ok K N sz) (hK : zb_At yk K) (hN : zb_At yn N) (hk : k < sz) (eK : K k = 2) (hB : zp_bk K k = b + 1) (hW : ∀ u, u < sz → aw u = zb_I (zp_B K N u)) (h0 : ¬ (zm_1 K N sz k b ∧ zm_2 K N sz k b) → ∀ ck cn co aw, post (-3) (nI sz, yk, yn, ck, cn, co, aw)) (h1 : zm_1 K N sz k b ∧ zm_2 K N sz k b → ∀ yk yn ck cn co aw, zb_At yk (fun i => K (zm_O b k i)) → zb_At yn (fun i => N (zm_O b k i)) → post (nI b) (nI sz, yk, yn, ck, cn, co, aw)) : ∀ n i ck cn co, b ≤ i → i ≤ k → k - i < n → zm_Cp K N b k i ck cn co → wY_moveOut_36 post (nI k) (nI b) n (nI i) (nI sz) yk yn ck cn co aw := by
  intro n
  have hs := hO.1
  have bk := (zp_bks hB).1
  induction n with
  | zero => intro i _ _ _ _ _ z; omega
  | succ n ih =>
    intro i ck cn co bi ik hn hA
    refine zb_if (nI_leI (by omega) (by omega)) (fun z => ?_) (fun z => ?_)
    · have : i = k := by omega
      subst this
      refine zy_mlg hO hk eK hB hW hA (fun g => br_f zx_10 ?_) (fun g => br_t rfl (h0 g _ _ _ _))
      refine zy_ac hs (zm_Te hA.1) (zm_Te hA.2.1) hK hN (fun j hj hz => ?_) (fun yk yn a c => h1 g yk yn _ _ _ _ a c)
      have o : zm_O b i j = j := by have := zm_cs b i j; omega
      rw [o]
      exact ⟨rfl, rfl⟩
    · rw [nI_1 i]
      refine zy_pl (by omega) (by omega) hK hN (nm_r (e' := nI (i + 1)) rfl ?_)
      exact ih (i + 1) _ _ _ (by omega) (by omega) (by omega) ⟨zm_Ts bi (by omega) (by omega) hA.1, zm_Ts bi (by omega) (by omega) hA.2.1, zm_Ts bi (by omega) (by omega) hA.2.2⟩
theorem zy_mo {post : Int32 → SY → Prop} {b k : Nat} (hO : zp_Ok K N sz) (hK : zb_At yk K) (hN : zb_At yn N) (hk : k < sz) (eK : K k = 2) (hB : zp_bk K k = b + 1) (h0 : ¬ (zm_1 K N sz k b ∧ zm_2 K N sz k b) → ∀ ck cn co aw, post (-3) (nI sz, yk, yn, ck, cn, co, aw)) (h1 : zm_1 K N sz k b ∧ zm_2 K N sz k b → ∀ yk yn ck cn co aw, zb_At yk (fun i => K (zm_O b k i)) → zb_At yn (fun i => N (zm_O b k i)) → post (nI b) (nI sz, yk, yn, ck, cn, co, aw)) : wpY_moveOut post (nI sz, yk, yn, ck, cn, co, aw) (nI k) := by
  have hs := hO.1
  have bk := (zp_bks hB).1
  unfold wpY_moveOut
  refine zy_ba hO hK hN (fun ck cn co aw hC hD hE hW => ?_)
  refine zy_de1 hO hK hN hk eK (br_f zx_10 ?_)
  refine zy_ar (by omega) hC hO.2.1 (fun i hi => hO.2.2.2 i (by omega)) ?_
  rw [hB, zb_Is]
  refine br_t (nI_pos' (by omega)) (zy_pl (by omega) (by omega) hK hN ⟨k + 1, ?_⟩)
  exact zy_mo36 hO hK hN hk eK hB hW h0 h1 (k + 1) b _ _ _ (by omega) (by omega) (by omega) ⟨zm_T0 bk (by omega) hC, zm_T0 bk (by omega) hD, zm_T0 bk (by omega) hE⟩
theorem zy_moo {post : Int32 → SY → Prop} {k : Nat} (hO : zp_Ok K N sz) (hK : zb_At yk K) (hN : zb_At yn N) (hk : k < sz) (eK : K k = 2) (hB : zp_bk K k = 0) (h : ∀ ck cn co aw, post (-1) (nI sz, yk, yn, ck, cn, co, aw)) : wpY_moveOut post (nI sz, yk, yn, ck, cn, co, aw) (nI k) := by
  have hs := hO.1
  unfold wpY_moveOut
  refine zy_ba hO hK hN (fun ck cn co aw hC hD hE hW => ?_)
  refine zy_de1 hO hK hN hk eK (br_f zx_10 ?_)
  refine zy_ar (by omega) hC hO.2.1 (fun i hi => hO.2.2.2 i (by omega)) ?_
  rw [hB]
  exact br_f (fun z => by have := (zb_le0I (s := 0) (by omega)).mp z; omega) (h _ _ _ _)
theorem zy_mo0 {post : Int32 → SY → Prop} {k : Nat} (hO : zp_Ok K N sz) (hK : zb_At yk K) (hN : zb_At yn N) (hk : k < sz) (e : K k ≠ 2) (h : ∀ ck cn co aw, post (-1) (nI sz, yk, yn, ck, cn, co, aw)) : wpY_moveOut post (nI sz, yk, yn, ck, cn, co, aw) (nI k) := by
  unfold wpY_moveOut
  refine zy_ba hO hK hN (fun ck cn co aw hC hD hE hW => ?_)
  exact zy_de0 hO hK hN hk e (br_t rfl (br_f (fun z => by have := (zb_le0I (s := 0) (by omega)).mp z; omega) (h _ _ _ _)))
theorem zy_mob {post : Int32 → SY → Prop} {p : Int32} (hO : zp_Ok K N sz) (hK : zb_At yk K) (hN : zb_At yn N) (hp : p < 0 ∨ nI sz ≤ p) (h : ∀ ck cn co aw, post (-1) (nI sz, yk, yn, ck, cn, co, aw)) : wpY_moveOut post (nI sz, yk, yn, ck, cn, co, aw) p := by
  unfold wpY_moveOut
  refine zy_ba hO hK hN (fun ck cn co aw hC hD hE hW => ?_)
  exact zy_deb hp (br_t rfl (br_f (fun z => by have := (zb_le0I (s := 0) (by omega)).mp z; omega) (h _ _ _ _)))
theorem zy_cm36 {post : Int32 → SY → Prop} {b k : Nat} (hO : zp_Ok K N sz) (hK : zb_At yk K) (hN : zb_At yn N) (hk : k < sz) (eK : K k = 2) (hB : zp_bk K k = b + 1) (hW : ∀ u, u < sz → aw u = zb_I (zp_B K N u)) (h0 : ¬ (zm_1 K N sz k b ∧ zm_2 K N sz k b) → ∀ ck cn co aw, post 0 (nI sz, yk, yn, ck, cn, co, aw)) (h1 : zm_1 K N sz k b ∧ zm_2 K N sz k b → ∀ ck cn co aw, post 1 (nI sz, yk, yn, ck, cn, co, aw)) : ∀ n i ck cn co, b ≤ i → i ≤ k → k - i < n → zm_Cp K N b k i ck cn co → wY_canMoveOut_36 post (nI k) n (nI i) (nI sz) yk yn ck cn co aw := by
  intro n
  have hs := hO.1
  have bk := (zp_bks hB).1
  induction n with
  | zero => intro i _ _ _ _ _ z; omega
  | succ n ih =>
    intro i ck cn co bi ik hn hA
    refine zb_if (nI_leI (by omega) (by omega)) (fun z => ?_) (fun z => ?_)
    · have : i = k := by omega
      subst this
      exact zy_mlg hO hk eK hB hW hA (fun g => ⟨narrow_b1, h1 g _ _ _ _⟩) (fun g => ⟨narrow_b0, h0 g _ _ _ _⟩)
    · rw [nI_1 i]
      refine zy_pl (by omega) (by omega) hK hN (nm_r (e' := nI (i + 1)) rfl ?_)
      exact ih (i + 1) _ _ _ (by omega) (by omega) (by omega) ⟨zm_Ts bi (by omega) (by omega) hA.1, zm_Ts bi (by omega) (by omega) hA.2.1, zm_Ts bi (by omega) (by omega) hA.2.2⟩
theorem zy_cm {post : Int32 → SY → Prop} {b k : Nat} (hO : zp_Ok K N sz) (hK : zb_At yk K) (hN : zb_At yn N) (hk : k < sz) (eK : K k = 2) (hB : zp_bk K k = b + 1) (h0 : ¬ (zm_1 K N sz k b ∧ zm_2 K N sz k b) → ∀ ck cn co aw, post 0 (nI sz, yk, yn, ck, cn, co, aw)) (h1 : zm_1 K N sz k b ∧ zm_2 K N sz k b → ∀ ck cn co aw, post 1 (nI sz, yk, yn, ck, cn, co, aw)) : wpY_canMoveOut post (nI sz, yk, yn, ck, cn, co, aw) (nI k) := by
  have hs := hO.1
  have bk := (zp_bks hB).1
  unfold wpY_canMoveOut
  refine zy_ba hO hK hN (fun ck cn co aw hC hD hE hW => ?_)
  refine zy_de1 hO hK hN hk eK (br_f zx_10 ?_)
  refine zy_ar (by omega) hC hO.2.1 (fun i hi => hO.2.2.2 i (by omega)) ?_
  rw [hB, zb_Is]
  refine br_t (nI_pos' (by omega)) (zy_pl (by omega) (by omega) hK hN ⟨k + 1, ?_⟩)
  exact zy_cm36 hO hK hN hk eK hB hW h0 h1 (k + 1) b _ _ _ (by omega) (by omega) (by omega) ⟨zm_T0 bk (by omega) hC, zm_T0 bk (by omega) hD, zm_T0 bk (by omega) hE⟩
theorem zy_cmo {post : Int32 → SY → Prop} {k : Nat} (hO : zp_Ok K N sz) (hK : zb_At yk K) (hN : zb_At yn N) (hk : k < sz) (eK : K k = 2) (hB : zp_bk K k = 0) (h : ∀ ck cn co aw, post 0 (nI sz, yk, yn, ck, cn, co, aw)) : wpY_canMoveOut post (nI sz, yk, yn, ck, cn, co, aw) (nI k) := by
  have hs := hO.1
  unfold wpY_canMoveOut
  refine zy_ba hO hK hN (fun ck cn co aw hC hD hE hW => ?_)
  refine zy_de1 hO hK hN hk eK (br_f zx_10 ?_)
  refine zy_ar (by omega) hC hO.2.1 (fun i hi => hO.2.2.2 i (by omega)) ?_
  rw [hB]
  exact br_f (fun z => by have := (zb_le0I (s := 0) (by omega)).mp z; omega) (h _ _ _ _)
theorem zy_cm0 {post : Int32 → SY → Prop} {k : Nat} (hO : zp_Ok K N sz) (hK : zb_At yk K) (hN : zb_At yn N) (hk : k < sz) (e : K k ≠ 2) (h : ∀ ck cn co aw, post 0 (nI sz, yk, yn, ck, cn, co, aw)) : wpY_canMoveOut post (nI sz, yk, yn, ck, cn, co, aw) (nI k) := by
  unfold wpY_canMoveOut
  refine zy_ba hO hK hN (fun ck cn co aw hC hD hE hW => ?_)
  exact zy_de0 hO hK hN hk e (br_t rfl (br_f (fun z => by have := (zb_le0I (s := 0) (by omega)).mp z; omega) (h _ _ _ _)))
theorem zy_cmb {post : Int32 → SY → Prop} {p : Int32} (hO : zp_Ok K N sz) (hK : zb_At yk K) (hN : zb_At yn N) (hp : p < 0 ∨ nI sz ≤ p) (h : ∀ ck cn co aw, post 0 (nI sz, yk, yn, ck, cn, co, aw)) : wpY_canMoveOut post (nI sz, yk, yn, ck, cn, co, aw) p := by
  unfold wpY_canMoveOut
  refine zy_ba hO hK hN (fun ck cn co aw hC hD hE hW => ?_)
  exact zy_deb hp (br_t rfl (br_f (fun z => by have := (zb_le0I (s := 0) (by omega)).mp z; omega) (h _ _ _ _)))
end
end
section
/-! adding a token -/
theorem za_2 : ¬ nI 0 = 2 ∧ ¬ nI 1 = 2 ∧ ¬ nI 0 = 3 ∧ ¬ nI 1 = 3 ∧ ¬ nI 3 = 2 ∧ ¬ nI 2 = 1 ∧ ¬ nI 3 = 1 ∧ ¬ nI 0 = 1 := by decide
theorem za_3 {v : Int32} (h : v < 0 ∨ 3 < v) : ¬ v = 2 ∧ ¬ v = 3 := by
  constructor
  · rintro rfl
    exact absurd h (by decide)
  · rintro rfl
    exact absurd h (by decide)
/-- the program with one more token -/
def za_K (f : Nat → Nat) (sz v i : Nat) : Nat := if i = sz then v else f i
theorem za_At {f : Nat → Nat} {a : Nat → Int32} {sz v : Nat} (h : zb_At a f) : zb_At (upd a sz (nI v)) (za_K f sz v) := by
  intro i hi
  unfold za_K
  rcases Classical.em (i = sz) with e | e
  · rw [if_pos e, e, pk_us]
  · rw [if_neg e, pk_un e]; exact h i hi
theorem za_Ok {K N : Nat → Nat} {sz kd nm : Nat} (h : zp_Ok K N sz) (hs : sz < 28) (hk : kd ≤ 3) (hn : nm ≤ 7) (hc : kd = 1 → 0 < zp_dp K sz) : zp_Ok (za_K K sz kd) (za_K N sz nm) (sz + 1) := by
  have hd : ∀ i, i ≤ sz → zp_dp (za_K K sz kd) i = zp_dp K i := fun i hi => zp_dc i (fun j hj => by unfold za_K; rw [if_neg (by omega)])
  refine ⟨by omega, fun i hi => ?_, fun i hi => ?_, fun i hi e => ?_⟩
  · unfold za_K
    rcases Classical.em (i = sz) with w | w
    · rw [if_pos w]; exact hk
    · rw [if_neg w]; exact h.2.1 i hi
  · unfold za_K
    rcases Classical.em (i = sz) with w | w
    · rw [if_pos w]; exact hn
    · rw [if_neg w]; exact h.2.2.1 i hi
  · rw [hd i (by omega)]
    unfold za_K at e
    rcases Classical.em (i = sz) with w | w
    · rw [if_pos w] at e; rw [w]; exact hc e
    · rw [if_neg w] at e; exact h.2.2.2 i (by omega) e
section
variable {K N : Nat → Nat} {sz : Nat} {kn : Int32} {xk xn xb xd xe xt xo : Nat → Int32} {yk yn ck cn co aw : Nat → Int32}
theorem zx_a55 {post : Int32 → SX → Prop} {kd nm : Nat} {x2 x3 : Int32} (hs : sz ≤ 28) (hkd : kd ≤ 3) (hnm : nm ≤ 7) (hx : (x3 = 0 ∧ nm = 0) ∨ (¬ x3 = 0 ∧ x2 = nI nm)) (hf : sz = 28 → post (-2) (nI sz, kn, xk, xn, xb, xd, xe, xt, xo)) (hp : sz < 28 → post (nI sz) (nI (sz + 1), 0, upd xk sz (nI kd), upd xn sz (nI nm), xb, xd, xe, xt, xo)) : wX_add_55 post (nI kd) x2 x3 (nI sz) kn xk xn xb xd xe xt xo := by
  refine zb_if (nI_ltI (b := 28) (by omega) (by decide)) (fun z => ⟨zb_in (by omega), nm_r (e' := upd xk sz (nI kd)) (by rw [zb_c (by omega), zb_vn8 (by omega)]) ?_⟩) (fun z => hf (by omega))
  have q : ∀ z0, z0 = nI nm → wX_add_95 post z0 (nI sz) (nI sz) kn (upd xk sz (nI kd)) xn xb xd xe xt xo := by
    intro z0 ez
    subst ez
    refine ⟨zb_in (by omega), nm_r (e' := upd xn sz (nI nm)) (by rw [zb_c (by omega), zb_vn8 (by omega)]) (nm_r (nI_1 _) ?_)⟩
    rw [nI_pred]
    exact hp z
  rcases hx with ⟨a, b⟩ | ⟨a, b⟩
  · exact br_t a (q 0 (by rw [b]; rfl))
  · exact br_f a (q x2 b)
theorem zy_a53 {post : Int32 → SY → Prop} {kd nm : Nat} {x2 x3 : Int32} (hs : sz ≤ 28) (hx : (x3 = 0 ∧ nm = 0) ∨ (¬ x3 = 0 ∧ x2 = nI nm)) (hf : sz = 28 → post (-2) (nI sz, yk, yn, ck, cn, co, aw)) (hp : sz < 28 → post (nI sz) (nI (sz + 1), upd yk sz (nI kd), upd yn sz (nI nm), ck, cn, co, aw)) : wY_add_53 post (nI kd) x2 x3 (nI sz) yk yn ck cn co aw := by
  refine zb_if (nI_ltI (b := 28) (by omega) (by decide)) (fun z => ⟨zb_in (by omega), nm_r (e' := upd yk sz (nI kd)) (by rw [zb_c (by omega)]) ?_⟩) (fun z => hf (by omega))
  have q : ∀ z0, z0 = nI nm → wY_add_92 post z0 (nI sz) (nI sz) (upd yk sz (nI kd)) yn ck cn co aw := by
    intro z0 ez
    subst ez
    refine ⟨zb_in (by omega), nm_r (e' := upd yn sz (nI nm)) (by rw [zb_c (by omega)]) (nm_r (nI_1 _) ?_)⟩
    rw [nI_pred]
    exact hp z
  rcases hx with ⟨a, b⟩ | ⟨a, b⟩
  · exact br_t a (q 0 (by rw [b]; rfl))
  · exact br_f a (q x2 b)
/-- a kind that is none -/
theorem zx_ab {post : Int32 → SX → Prop} {v w : Int32} (h : v < 0 ∨ 3 < v) (hp : post (-1) (nI sz, kn, xk, xn, xb, xd, xe, xt, xo)) : wpX_add post (nI sz, kn, xk, xn, xb, xd, xe, xt, xo) v w := by
  obtain ⟨a, b⟩ := za_3 h
  refine br_f a (br_f b ?_)
  rcases Classical.em (v < 0) with z | z
  · exact br_t z hp
  · exact br_f z (br_t (h.resolve_left z) hp)
theorem zy_ab {post : Int32 → SY → Prop} {v w : Int32} (h : v < 0 ∨ 3 < v) (hp : post (-1) (nI sz, yk, yn, ck, cn, co, aw)) : wpY_add post (nI sz, yk, yn, ck, cn, co, aw) v w := by
  obtain ⟨a, b⟩ := za_3 h
  refine br_f a (br_f b ?_)
  rcases Classical.em (v < 0) with z | z
  · exact br_t z hp
  · exact br_f z (br_t (h.resolve_left z) hp)
theorem za_p {kd : Nat} (h : kd ≤ 3) : ¬ nI kd < 0 ∧ ¬ 3 < nI kd := ⟨nI_pos (by omega), nI_nlt (a := kd) (b := 3) |> fun _ => by
  have := nI_ltI (a := 3) (b := kd) (by decide) (by omega)
  exact fun z => absurd (this.mp z) (by omega)⟩
theorem za_e {kd : Nat} (h : kd ≤ 3) : (nI kd = 2 ↔ kd = 2) ∧ (nI kd = 3 ↔ kd = 3) ∧ (nI kd = 1 ↔ kd = 1) :=
  ⟨nI_eq (b := 2) (by omega) (by decide), nI_eq (b := 3) (by omega) (by decide), nI_eq (b := 1) (by omega) (by decide)⟩
/-- a declaration or a use -/
theorem zx_a15n {post : Int32 → SX → Prop} {kd : Nat} {w : Int32} (hs : sz ≤ 28) (hkd : kd = 2 ∨ kd = 3) (hb : (w < 0 ∨ ¬ w < 8) → post (-1) (nI sz, kn, xk, xn, xb, xd, xe, xt, xo)) (hg : ¬ w < 0 → w < 8 → wX_add_55 post (nI kd) w 1 (nI sz) kn xk xn xb xd xe xt xo) : wX_add_15 post (nI kd) w 1 (nI sz) kn xk xn xb xd xe xt xo := by
  obtain ⟨p1, p2⟩ := za_p (kd := kd) (by omega)
  refine br_f p1 (br_f p2 (br_f zx_10 (br_c (fun z => hb (Or.inl z)) (fun z => br_c (fun y => ?_) (fun y => hb (Or.inr y))))))
  exact br_f (fun e => by have := (za_e (kd := kd) (by omega)).2.2.mp e; omega) (hg z y)
theorem zx_an {post : Int32 → SX → Prop} {kd : Nat} {w : Int32} (hs : sz ≤ 28) (hkd : kd = 2 ∨ kd = 3) (hb : (w < 0 ∨ ¬ w < 8) → post (-1) (nI sz, kn, xk, xn, xb, xd, xe, xt, xo)) (hg : ¬ w < 0 → w < 8 → wX_add_55 post (nI kd) w 1 (nI sz) kn xk xn xb xd xe xt xo) : wpX_add post (nI sz, kn, xk, xn, xb, xd, xe, xt, xo) (nI kd) w := by
  have k := zx_a15n hs hkd hb hg
  rcases hkd with e | e
  · subst e; exact br_t rfl k
  · subst e; exact br_f (by decide) (br_t rfl k)
theorem zy_a15n {post : Int32 → SY → Prop} {kd : Nat} {w : Int32} (hs : sz ≤ 28) (hkd : kd = 2 ∨ kd = 3) (hb : (w < 0 ∨ ¬ w ≤ 7) → post (-1) (nI sz, yk, yn, ck, cn, co, aw)) (hg : ¬ w < 0 → w ≤ 7 → wY_add_53 post (nI kd) w 1 (nI sz) yk yn ck cn co aw) : wY_add_15 post (nI kd) w 1 (nI sz) yk yn ck cn co aw := by
  obtain ⟨p1, p2⟩ := za_p (kd := kd) (by omega)
  refine br_f p1 (br_f p2 (br_f (fun e => by have := (za_e (kd := kd) (by omega)).2.2.mp e; omega) ?_))
  exact br_f zx_10 (br_c (fun z => hb (Or.inl z)) (fun z => br_c (fun y => hg z y) (fun y => hb (Or.inr y))))
theorem zy_an {post : Int32 → SY → Prop} {kd : Nat} {w : Int32} (hs : sz ≤ 28) (hkd : kd = 2 ∨ kd = 3) (hb : (w < 0 ∨ ¬ w ≤ 7) → post (-1) (nI sz, yk, yn, ck, cn, co, aw)) (hg : ¬ w < 0 → w ≤ 7 → wY_add_53 post (nI kd) w 1 (nI sz) yk yn ck cn co aw) : wpY_add post (nI sz, yk, yn, ck, cn, co, aw) (nI kd) w := by
  have k := zy_a15n hs hkd hb hg
  rcases hkd with e | e
  · subst e; exact br_t rfl k
  · subst e; exact br_f (by decide) (br_t rfl k)
/-- OPEN -/
theorem zx_ao {post : Int32 → SX → Prop} {w : Int32} (hg : wX_add_55 post (nI 0) w 0 (nI sz) kn xk xn xb xd xe xt xo) : wpX_add post (nI sz, kn, xk, xn, xb, xd, xe, xt, xo) (nI 0) w :=
  br_f (by decide) (br_f (by decide) (br_f (by decide) (br_f (by decide) (br_t rfl (br_f (by decide) hg)))))
theorem zy_ao {post : Int32 → SY → Prop} {w : Int32} (hg : wY_add_53 post (nI 0) w 0 (nI sz) yk yn ck cn co aw) : wpY_add post (nI sz, yk, yn, ck, cn, co, aw) (nI 0) w :=
  br_f (by decide) (br_f (by decide) (br_f (by decide) (br_f (by decide) (br_f (by decide) (br_t rfl hg)))))
/-- CLOSE -/
theorem zx_ac {post : Int32 → SX → Prop} {w : Int32} (hO : zp_Ok K N sz) (hK : zb_At xk K) (hN : zb_At xn N) (hb : zp_dp K sz = 0 → post (-1) (nI sz, kn, xk, xn, xb, xd, xe, xt, xo)) (hg : zp_dp K sz ≠ 0 → wX_add_55 post (nI 1) w 0 (nI sz) kn xk xn xb xd xe xt xo) : wpX_add post (nI sz, kn, xk, xn, xb, xd, xe, xt, xo) (nI 1) w := by
  have hs := hO.1
  have l := zp_le (K := K) sz
  refine br_f (by decide) (br_f (by decide) (br_f (by decide) (br_f (by decide) (br_t rfl (br_t rfl ?_)))))
  exact zx_oc hO hK (zb_if (nI_eq (b := 0) (by omega) (by decide)) hb hg)
theorem zy_acl {post : Int32 → SY → Prop} {w : Int32} (hO : zp_Ok K N sz) (hK : zb_At yk K) (hN : zb_At yn N) (hb : zp_dp K sz = 0 → post (-1) (nI sz, yk, yn, ck, cn, co, aw)) (hg : zp_dp K sz ≠ 0 → wY_add_53 post (nI 1) w 0 (nI sz) yk yn ck cn co aw) : wpY_add post (nI sz, yk, yn, ck, cn, co, aw) (nI 1) w := by
  have hs := hO.1
  have l := zp_le (K := K) sz
  refine br_f (by decide) (br_f (by decide) (br_f (by decide) (br_f (by decide) (br_t rfl ?_))))
  exact zy_op hO hK hN (zb_if (nI_eq (b := 0) (by omega) (by decide)) hb (fun e => br_t rfl (hg e)))
end
end
section
/-! the relation, and what is owed -/
/-- both hold one program K, N of sz tokens; the component's tables are right if known; the reference's scratch arrays are anything -/
def i_Rel (k : Nat) (u : SX) (v : SY) : Prop := ∃ (K N : Nat → Nat) (sz : Nat) (kn : Int32) (xk xn xb xd xe xt xo yk yn ck cn co aw : Nat → Int32), u = (nI sz, kn, xk, xn, xb, xd, xe, xt, xo) ∧ v = (nI sz, yk, yn, ck, cn, co, aw) ∧ zp_Ok K N sz ∧ zb_At xk K ∧ zb_At xn N ∧ zb_At yk K ∧ zb_At yn N ∧ (kn = 0 ∨ (kn = 1 ∧ zx_Kn K N sz xb xd xe xt))
theorem zz_el {k : Nat} {u : SX} {v : SY} {P : SX → SY → Prop} (h : ∀ (K N : Nat → Nat) (sz : Nat) (kn : Int32) (xk xn xb xd xe xt xo yk yn ck cn co aw : Nat → Int32), zp_Ok K N sz → zb_At xk K → zb_At xn N → zb_At yk K → zb_At yn N → (kn = 0 ∨ (kn = 1 ∧ zx_Kn K N sz xb xd xe xt)) → P (nI sz, kn, xk, xn, xb, xd, xe, xt, xo) (nI sz, yk, yn, ck, cn, co, aw)) (I : i_Rel k u v) : P u v := by
  obtain ⟨K, N, sz, kn, xk, xn, xb, xd, xe, xt, xo, yk, yn, ck, cn, co, aw, e1, e2, h1, h2, h3, h4, h5, h6⟩ := I
  rw [e1, e2]
  exact h K N sz kn xk xn xb xd xe xt xo yk yn ck cn co aw h1 h2 h3 h4 h5 h6
theorem zz_in {k : Nat} {K N : Nat → Nat} {sz : Nat} {kn : Int32} {xk xn xb xd xe xt xo yk yn ck cn co aw : Nat → Int32} (h1 : zp_Ok K N sz) (h2 : zb_At xk K) (h3 : zb_At xn N) (h4 : zb_At yk K) (h5 : zb_At yn N) (h6 : kn = 0 ∨ (kn = 1 ∧ zx_Kn K N sz xb xd xe xt)) : i_Rel k (nI sz, kn, xk, xn, xb, xd, xe, xt, xo) (nI sz, yk, yn, ck, cn, co, aw) :=
  ⟨K, N, sz, kn, xk, xn, xb, xd, xe, xt, xo, yk, yn, ck, cn, co, aw, rfl, rfl, h1, h2, h3, h4, h5, h6⟩
theorem zz_ix {v : Int32} {sz : Nat} (h : sz ≤ 28) : (v < 0 ∨ nI sz ≤ v) ∨ ∃ j, j < sz ∧ v = nI j := by
  rcases pk_ix v (n := sz) (by omega) with z | z | z
  · exact Or.inl (Or.inl z)
  · exact Or.inl (Or.inr z)
  · exact Or.inr z
theorem zz_8t : (8 : Int32).toInt = 8 := by decide
theorem zz_7t : (7 : Int32).toInt = 7 := by decide
theorem zz_w {w : Int32} : w < 8 ↔ w ≤ 7 := by
  rw [Int32.lt_iff_toInt_lt, Int32.le_iff_toInt_le, zz_8t, zz_7t]; omega
theorem i_up {k : Nat} {u : SX} {v : SY} (h : i_Rel k u v) : i_Rel (k + 3) u v := h
theorem i_vc0 : wpX_init (fun u => wpY_init (fun v => i_Rel 0 u v)) :=
  zz_in (k := 0) (K := fun _ => 0) (N := fun _ => 0) (sz := 0) (kn := 0) ⟨by omega, fun _ _ => Nat.zero_le _, fun _ _ => Nat.zero_le _, fun k h => absurd h (Nat.not_lt_zero k)⟩ (fun _ _ => rfl) (fun _ _ => rfl) (fun _ _ => rfl) (fun _ _ => rfl) (Or.inl rfl)
theorem i_vc_add {k : Nat} {u : SX} {v : SY} (I : i_Rel k u v) (hk : k + 3 ≤ 1536) (v1 : Int32) (v2 : Int32) : wpX_add (fun r u' => wpY_add (fun r' v' => r' = r ∧ i_Rel (k + 3) u' v') v v1 v2) u v1 v2 := by
  refine zz_el (P := fun u v => wpX_add (fun r u' => wpY_add (fun r' v' => r' = r ∧ i_Rel (k + 3) u' v') v v1 v2) u v1 v2) ?_ I
  intro K N sz kn xk xn xb xd xe xt xo yk yn ck cn co aw hO hK hN hL hM hkn
  have hs := hO.1
  rcases Classical.em (v1 < 0 ∨ 3 < v1) with z | z
  · exact zx_ab z (zy_ab z ⟨rfl, zz_in hO hK hN hL hM hkn⟩)
  · obtain ⟨kd, hkd, rfl⟩ := nI_of2 (x := v1) (M := 3) (n := 3) (by decide) (fun w => z (Or.inl w)) (Int32.not_lt.mp (fun w => z (Or.inr w)))
    have nx : ∀ nm, nm ≤ 7 → (kd = 1 → 0 < zp_dp K sz) → sz < 28 → i_Rel (k + 3) (nI (sz + 1), 0, upd xk sz (nI kd), upd xn sz (nI nm), xb, xd, xe, xt, xo) (nI (sz + 1), upd yk sz (nI kd), upd yn sz (nI nm), ck, cn, co, aw) := fun nm h7 hc h28 =>
      zz_in (za_Ok hO h28 hkd h7 hc) (za_At hK) (za_At hN) (za_At hL) (za_At hM) (Or.inl rfl)
    rcases Nat.lt_or_ge kd 2 with y | y
    · rcases Nat.lt_or_ge kd 1 with x | x
      · have : kd = 0 := by omega
        subst this
        refine zx_ao (zx_a55 (nm := 0) hs hkd (by omega) (Or.inl ⟨rfl, rfl⟩) (fun a => ?_) (fun a => ?_))
        · exact zy_ao (zy_a53 (nm := 0) hs (Or.inl ⟨rfl, rfl⟩) (fun _ => ⟨rfl, zz_in hO hK hN hL hM hkn⟩) (fun b => by omega))
        · exact zy_ao (zy_a53 (nm := 0) hs (Or.inl ⟨rfl, rfl⟩) (fun b => by omega) (fun _ => ⟨rfl, nx 0 (by omega) (fun e => by omega) a⟩))
      · have : kd = 1 := by omega
        subst this
        refine zx_ac hO hK hN (fun d => ?_) (fun d => zx_a55 (nm := 0) hs hkd (by omega) (Or.inl ⟨rfl, rfl⟩) (fun a => ?_) (fun a => ?_))
        · exact zy_acl hO hL hM (fun _ => ⟨rfl, zz_in hO hK hN hL hM hkn⟩) (fun e => absurd d e)
        · exact zy_acl hO hL hM (fun e => absurd e d) (fun _ => zy_a53 (nm := 0) hs (Or.inl ⟨rfl, rfl⟩) (fun _ => ⟨rfl, zz_in hO hK hN hL hM hkn⟩) (fun b => by omega))
        · exact zy_acl hO hL hM (fun e => absurd e d) (fun _ => zy_a53 (nm := 0) hs (Or.inl ⟨rfl, rfl⟩) (fun b => by omega) (fun _ => ⟨rfl, nx 0 (by omega) (fun _ => by omega) a⟩))
    · have h23 : kd = 2 ∨ kd = 3 := by omega
      refine zx_an hs h23 (fun w => ?_) (fun w1 w2 => ?_)
      · exact zy_an hs h23 (fun _ => ⟨rfl, zz_in hO hK hN hL hM hkn⟩) (fun a b => absurd w (fun c => c.elim a (fun d => d (zz_w.mpr b))))
      · obtain ⟨nm, h7, rfl⟩ := nI_of2 (x := v2) (M := 7) (n := 7) (by decide) w1 (zz_w.mp w2)
        refine zx_a55 (nm := nm) hs hkd h7 (Or.inr ⟨zx_10, rfl⟩) (fun a => ?_) (fun a => ?_)
        · exact zy_an hs h23 (fun c => absurd c (fun c => c.elim w1 (fun d => d (zz_w.mp w2)))) (fun _ _ => zy_a53 (nm := nm) hs (Or.inr ⟨zx_10, rfl⟩) (fun _ => ⟨rfl, zz_in hO hK hN hL hM hkn⟩) (fun b => by omega))
        · exact zy_an hs h23 (fun c => absurd c (fun c => c.elim w1 (fun d => d (zz_w.mp w2)))) (fun _ _ => zy_a53 (nm := nm) hs (Or.inr ⟨zx_10, rfl⟩) (fun b => by omega) (fun _ => ⟨rfl, nx nm h7 (fun e => by omega) a⟩))
theorem i_vc_drop {k : Nat} {u : SX} {v : SY} (I : i_Rel k u v) (hk : k + 3 ≤ 1536) : wpX_drop (fun r u' => wpY_drop (fun r' v' => r' = r ∧ i_Rel (k + 3) u' v') v) u := by
  refine zz_el (P := fun u v => wpX_drop (fun r u' => wpY_drop (fun r' v' => r' = r ∧ i_Rel (k + 3) u' v') v) u) ?_ I
  intro K N sz kn xk xn xb xd xe xt xo yk yn ck cn co aw hO hK hN hL hM hkn
  have hs := hO.1
  rcases Nat.eq_zero_or_pos sz with z | z
  · subst z
    exact br_t rfl (br_t rfl ⟨rfl, zz_in hO hK hN hL hM hkn⟩)
  · obtain ⟨q, rfl⟩ : ∃ q, sz = q + 1 := ⟨sz - 1, by omega⟩
    have n0 : ¬ nI (q + 1) = 0 := nI_ne0 (by omega) (by omega)
    exact br_f n0 (nm_r (nI_pred q) (br_f n0 (nm_r (nI_pred q) ⟨rfl, zz_in ⟨by omega, hO.2.1, hO.2.2.1, fun i hi => hO.2.2.2 i (by omega)⟩ hK hN hL hM (Or.inl rfl)⟩)))
theorem i_vc_length {k : Nat} {u : SX} {v : SY} (I : i_Rel k u v) (hk : k + 3 ≤ 1536) : wpX_length (fun r => wpY_length (fun r' => r' = r ∧ i_Rel (k + 3) u v) v) u := by
  refine zz_el (P := fun u v => wpX_length (fun r => wpY_length (fun r' => r' = r ∧ i_Rel (k + 3) u v) v) u) ?_ I
  intro K N sz kn xk xn xb xd xe xt xo yk yn ck cn co aw hO hK hN hL hM hkn
  exact ⟨rfl, zz_in hO hK hN hL hM hkn⟩
theorem i_vc_token {k : Nat} {u : SX} {v : SY} (I : i_Rel k u v) (hk : k + 3 ≤ 1536) (v1 : Int32) : wpX_token (fun r => wpY_token (fun r' => r' = r ∧ i_Rel (k + 3) u v) v v1) u v1 := by
  refine zz_el (P := fun u v => wpX_token (fun r => wpY_token (fun r' => r' = r ∧ i_Rel (k + 3) u v) v v1) u v1) ?_ I
  intro K N sz kn xk xn xb xd xe xt xo yk yn ck cn co aw hO hK hN hL hM hkn
  rcases zz_ix (v := v1) hO.1 with h | ⟨j, hj, rfl⟩
  · exact zx_tok0 h (zy_tok0 h ⟨rfl, zz_in hO hK hN hL hM hkn⟩)
  · exact zx_tok1 hO hK hN hj (zy_tok1 hO hL hM hj ⟨rfl, zz_in hO hK hN hL hM hkn⟩)
theorem i_vc_bound {k : Nat} {u : SX} {v : SY} (I : i_Rel k u v) (hk : k + 3 ≤ 1536) (v1 : Int32) : wpX_bound (fun r u' => wpY_bound (fun r' v' => r' = r ∧ i_Rel (k + 3) u' v') v v1) u v1 := by
  refine zz_el (P := fun u v => wpX_bound (fun r u' => wpY_bound (fun r' v' => r' = r ∧ i_Rel (k + 3) u' v') v v1) u v1) ?_ I
  intro K N sz kn xk xn xb xd xe xt xo yk yn ck cn co aw hO hK hN hL hM hkn
  rcases zz_ix (v := v1) hO.1 with h | ⟨j, hj, rfl⟩
  · exact zx_bdb h (zy_bdb hO hL hM h (fun ck cn co aw => ⟨rfl, zz_in hO hK hN hL hM hkn⟩))
  · rcases Classical.em (K j = 3) with e | e
    · exact zx_bd1 hO hK hN hkn hj e (fun xb xd xe xt xo hk => zy_bd1 hO hL hM hj (fun ck cn co aw => ⟨rfl, zz_in hO hK hN hL hM (Or.inr ⟨rfl, hk⟩)⟩))
    · exact zx_bd0 hO hK hN hj e (zy_bd1 hO hL hM hj (fun ck cn co aw => ⟨by rw [zp_Bz e]; rfl, zz_in hO hK hN hL hM hkn⟩))
theorem i_vc_uses {k : Nat} {u : SX} {v : SY} (I : i_Rel k u v) (hk : k + 3 ≤ 1536) (v1 : Int32) : wpX_uses (fun r u' => wpY_uses (fun r' v' => r' = r ∧ i_Rel (k + 3) u' v') v v1) u v1 := by
  refine zz_el (P := fun u v => wpX_uses (fun r u' => wpY_uses (fun r' v' => r' = r ∧ i_Rel (k + 3) u' v') v v1) u v1) ?_ I
  intro K N sz kn xk xn xb xd xe xt xo yk yn ck cn co aw hO hK hN hL hM hkn
  rcases zz_ix (v := v1) hO.1 with h | ⟨j, hj, rfl⟩
  · exact zx_usb h (zy_usb hO hL hM h (fun ck cn co aw => ⟨rfl, zz_in hO hK hN hL hM hkn⟩))
  · rcases Classical.em (K j = 2) with e | e
    · exact zx_us hO hK hN hkn hj e (fun xb xd xe xt xo hk => zy_us hO hL hM hj (fun ck cn co aw => ⟨rfl, zz_in hO hK hN hL hM (Or.inr ⟨rfl, hk⟩)⟩))
    · exact zx_us0 hO hK hN hj e (zy_us hO hL hM hj (fun ck cn co aw => ⟨zy_us0 hO.1 e, zz_in hO hK hN hL hM hkn⟩))
theorem i_vc_free {k : Nat} {u : SX} {v : SY} (I : i_Rel k u v) (hk : k + 3 ≤ 1536) : wpX_free (fun r u' => wpY_free (fun r' v' => r' = r ∧ i_Rel (k + 3) u' v') v) u := by
  refine zz_el (P := fun u v => wpX_free (fun r u' => wpY_free (fun r' v' => r' = r ∧ i_Rel (k + 3) u' v') v) u) ?_ I
  intro K N sz kn xk xn xb xd xe xt xo yk yn ck cn co aw hO hK hN hL hM hkn
  exact zx_fr hO hK hN hkn (fun xb xd xe xt xo hk => zy_fr hO hL hM (fun ck cn co aw => ⟨rfl, zz_in hO hK hN hL hM (Or.inr ⟨rfl, hk⟩)⟩))
theorem i_vc_unused {k : Nat} {u : SX} {v : SY} (I : i_Rel k u v) (hk : k + 3 ≤ 1536) : wpX_unused (fun r u' => wpY_unused (fun r' v' => r' = r ∧ i_Rel (k + 3) u' v') v) u := by
  refine zz_el (P := fun u v => wpX_unused (fun r u' => wpY_unused (fun r' v' => r' = r ∧ i_Rel (k + 3) u' v') v) u) ?_ I
  intro K N sz kn xk xn xb xd xe xt xo yk yn ck cn co aw hO hK hN hL hM hkn
  exact zx_un hO hK hN hkn (fun kn xb xd xe xt xo hkn => zy_un hO hL hM (fun ck cn co aw => ⟨rfl, zz_in hO hK hN hL hM hkn⟩))
theorem i_vc_names {k : Nat} {u : SX} {v : SY} (I : i_Rel k u v) (hk : k + 3 ≤ 1536) (v1 : Int32) : wpX_names (fun r u' => wpY_names (fun r' v' => r' = r ∧ i_Rel (k + 3) u' v') v v1) u v1 := by
  refine zz_el (P := fun u v => wpX_names (fun r u' => wpY_names (fun r' v' => r' = r ∧ i_Rel (k + 3) u' v') v v1) u v1) ?_ I
  intro K N sz kn xk xn xb xd xe xt xo yk yn ck cn co aw hO hK hN hL hM hkn
  rcases zz_ix (v := v1) hO.1 with h | ⟨j, hj, rfl⟩
  · exact zx_nmb h (zy_nmb h ⟨rfl, zz_in hO hK hN hL hM hkn⟩)
  · rcases Classical.em (K j = 2) with e | e
    · exact zx_nm hO hK hN hkn hj e (fun xb xd xe xt xo hk => zy_nm hO hL hM hj e (fun ck cn co aw => ⟨rfl, zz_in hO hK hN hL hM (Or.inr ⟨rfl, hk⟩)⟩))
    · exact zx_nm0 hO hK hN hj e (zy_nm0 hO hL hM hj e ⟨rfl, zz_in hO hK hN hL hM hkn⟩)
theorem i_vc_rename {k : Nat} {u : SX} {v : SY} (I : i_Rel k u v) (hk : k + 3 ≤ 1536) (v1 : Int32) (v2 : Int32) : wpX_rename (fun r u' => wpY_rename (fun r' v' => r' = r ∧ i_Rel (k + 3) u' v') v v1 v2) u v1 v2 := by
  refine zz_el (P := fun u v => wpX_rename (fun r u' => wpY_rename (fun r' v' => r' = r ∧ i_Rel (k + 3) u' v') v v1 v2) u v1 v2) ?_ I
  intro K N sz kn xk xn xb xd xe xt xo yk yn ck cn co aw hO hK hN hL hM hkn
  rcases zz_ix (v := v1) hO.1 with h | ⟨j, hj, rfl⟩
  · exact zx_rnb h (zy_rnb h ⟨rfl, zz_in hO hK hN hL hM hkn⟩)
  · rcases Classical.em (K j = 2) with e | e
    · have bad : (v2 < 0 ∨ 8 ≤ v2) → wpX_rename (fun r u' => wpY_rename (fun r' v' => r' = r ∧ i_Rel (k + 3) u' v') (nI sz, yk, yn, ck, cn, co, aw) (nI j) v2) (nI sz, kn, xk, xn, xb, xd, xe, xt, xo) (nI j) v2 := fun h =>
        zx_rnm hO hK hN hj e h (zy_rnm hO hL hM hj e (h.elim Or.inl (fun w => Or.inr (fun y => absurd (zz_w.mpr y) (Int32.not_lt.mpr w)))) ⟨rfl, zz_in hO hK hN hL hM hkn⟩)
      rcases pk_ix v2 (n := 8) (by decide) with h | h | ⟨m, hm, rfl⟩
      · exact bad (Or.inl h)
      · exact bad (Or.inr h)
      · have h7 : m ≤ 7 := by omega
        refine zx_rn hO hK hN hkn hj e h7 (fun xb xd xe xt xo hk g => ?_) (fun xb xd xe xt xo hk g xn hx => ?_)
        · exact zy_rn hO hL hM hj e h7 (fun _ ck cn co aw => ⟨rfl, zz_in hO hK hN hL hM (Or.inr ⟨rfl, hk⟩)⟩) (fun w => absurd w g)
        · refine zy_rn hO hL hM hj e h7 (fun w => absurd g w) (fun _ yk yn ck cn co aw a b => ⟨rfl, ?_⟩)
          exact zz_in (zn_Ok hO h7) hK hx a b (Or.inr ⟨rfl, hk.1, fun u hu => by rw [zn_B g hu]; exact hk.2 u hu⟩)
    · exact zx_rn0 hO hK hN hj e (zy_rn0 hO hL hM hj e ⟨rfl, zz_in hO hK hN hL hM hkn⟩)
theorem i_vc_swap {k : Nat} {u : SX} {v : SY} (I : i_Rel k u v) (hk : k + 3 ≤ 1536) (v1 : Int32) : wpX_swap (fun r u' => wpY_swap (fun r' v' => r' = r ∧ i_Rel (k + 3) u' v') v v1) u v1 := by
  refine zz_el (P := fun u v => wpX_swap (fun r u' => wpY_swap (fun r' v' => r' = r ∧ i_Rel (k + 3) u' v') v v1) u v1) ?_ I
  intro K N sz kn xk xn xb xd xe xt xo yk yn ck cn co aw hO hK hN hL hM hkn
  rcases zz_ix (v := v1) hO.1 with h | ⟨j, hj, rfl⟩
  · exact zx_swb h (zy_swb h ⟨rfl, zz_in hO hK hN hL hM hkn⟩)
  · rcases Classical.em (sz ≤ j + 1 ∨ (j + 1 < sz ∧ (K j < 2 ∨ K (j + 1) < 2))) with c | c
    · exact zx_sw0 hO hK hN hj c (zy_sw0 hO hL hM hj c ⟨rfl, zz_in hO hK hN hL hM hkn⟩)
    · have h1 : j + 1 < sz := by omega
      have h2 : 2 ≤ K j := by omega
      have h3 : 2 ≤ K (j + 1) := by omega
      refine zx_sw hO hK hN hkn h1 h2 h3 (fun xb xd xe xt xo hk g => ?_) (fun g xk xn xb xd xe xt xo a b => ?_)
      · exact zy_sw hO hL hM h1 h2 h3 (fun _ ck cn co aw => ⟨rfl, zz_in hO hK hN hL hM (Or.inr ⟨rfl, hk⟩)⟩) (fun w => absurd g w)
      · exact zy_sw hO hL hM h1 h2 h3 (fun w => absurd w g) (fun _ yk yn ck cn co aw c d => ⟨rfl, zz_in (zs_Ok hO h1 h2 h3) a b c d (Or.inl rfl)⟩)
theorem i_vc_moveOut {k : Nat} {u : SX} {v : SY} (I : i_Rel k u v) (hk : k + 3 ≤ 1536) (v1 : Int32) : wpX_moveOut (fun r u' => wpY_moveOut (fun r' v' => r' = r ∧ i_Rel (k + 3) u' v') v v1) u v1 := by
  refine zz_el (P := fun u v => wpX_moveOut (fun r u' => wpY_moveOut (fun r' v' => r' = r ∧ i_Rel (k + 3) u' v') v v1) u v1) ?_ I
  intro K N sz kn xk xn xb xd xe xt xo yk yn ck cn co aw hO hK hN hL hM hkn
  rcases zz_ix (v := v1) hO.1 with h | ⟨j, hj, rfl⟩
  · exact zx_mob h (zy_mob hO hL hM h (fun ck cn co aw => ⟨rfl, zz_in hO hK hN hL hM hkn⟩))
  · rcases Classical.em (K j = 2) with e | e
    · rcases Nat.eq_zero_or_pos (zp_bk K j) with z | z
      · exact zx_moo hO hK hN hkn hj e z (fun xb xd xe xt xo hk => zy_moo hO hL hM hj e z (fun ck cn co aw => ⟨rfl, zz_in hO hK hN hL hM (Or.inr ⟨rfl, hk⟩)⟩))
      · obtain ⟨b, hB⟩ : ∃ b, zp_bk K j = b + 1 := ⟨zp_bk K j - 1, by omega⟩
        refine zx_mo hO hK hN hkn hj e hB (fun xb xd xe xt xo hk g => ?_) (fun g xk xn xb xd xe xt xo a b => ?_)
        · exact zy_mo hO hL hM hj e hB (fun _ ck cn co aw => ⟨rfl, zz_in hO hK hN hL hM (Or.inr ⟨rfl, hk⟩)⟩) (fun w => absurd w g)
        · exact zy_mo hO hL hM hj e hB (fun w => absurd g w) (fun _ yk yn ck cn co aw c d => ⟨rfl, zz_in (zm_Ok hO hj (zp_bks hB).1 e) a b c d (Or.inl rfl)⟩)
    · exact zx_mo0 hO hK hN hj e (zy_mo0 hO hL hM hj e (fun ck cn co aw => ⟨rfl, zz_in hO hK hN hL hM hkn⟩))
theorem i_vc_canMoveOut {k : Nat} {u : SX} {v : SY} (I : i_Rel k u v) (hk : k + 3 ≤ 1536) (v1 : Int32) : wpX_canMoveOut (fun r u' => wpY_canMoveOut (fun r' v' => r' = r ∧ i_Rel (k + 3) u' v') v v1) u v1 := by
  refine zz_el (P := fun u v => wpX_canMoveOut (fun r u' => wpY_canMoveOut (fun r' v' => r' = r ∧ i_Rel (k + 3) u' v') v v1) u v1) ?_ I
  intro K N sz kn xk xn xb xd xe xt xo yk yn ck cn co aw hO hK hN hL hM hkn
  rcases zz_ix (v := v1) hO.1 with h | ⟨j, hj, rfl⟩
  · exact zx_cmb h (zy_cmb hO hL hM h (fun ck cn co aw => ⟨rfl, zz_in hO hK hN hL hM hkn⟩))
  · rcases Classical.em (K j = 2) with e | e
    · rcases Nat.eq_zero_or_pos (zp_bk K j) with z | z
      · exact zx_cmo hO hK hN hkn hj e z (fun xb xd xe xt xo hk => zy_cmo hO hL hM hj e z (fun ck cn co aw => ⟨rfl, zz_in hO hK hN hL hM (Or.inr ⟨rfl, hk⟩)⟩))
      · obtain ⟨b, hB⟩ : ∃ b, zp_bk K j = b + 1 := ⟨zp_bk K j - 1, by omega⟩
        refine zx_cm hO hK hN hkn hj e hB (fun xb xd xe xt xo hk g => ?_) (fun xb xd xe xt xo hk g => ?_)
        · exact zy_cm hO hL hM hj e hB (fun _ ck cn co aw => ⟨rfl, zz_in hO hK hN hL hM (Or.inr ⟨rfl, hk⟩)⟩) (fun w => absurd w g)
        · exact zy_cm hO hL hM hj e hB (fun w => absurd g w) (fun _ ck cn co aw => ⟨rfl, zz_in hO hK hN hL hM (Or.inr ⟨rfl, hk⟩)⟩)
    · exact zx_cm0 hO hK hN hj e (zy_cm0 hO hL hM hj e (fun ck cn co aw => ⟨rfl, zz_in hO hK hN hL hM hkn⟩))
theorem i_vc_depth {k : Nat} {u : SX} {v : SY} (I : i_Rel k u v) (hk : k + 3 ≤ 1536) (v1 : Int32) : wpX_depth (fun r u' => wpY_depth (fun r' v' => r' = r ∧ i_Rel (k + 3) u' v') v v1) u v1 := by
  refine zz_el (P := fun u v => wpX_depth (fun r u' => wpY_depth (fun r' v' => r' = r ∧ i_Rel (k + 3) u' v') v v1) u v1) ?_ I
  intro K N sz kn xk xn xb xd xe xt xo yk yn ck cn co aw hO hK hN hL hM hkn
  rcases zz_ix (v := v1) hO.1 with h | ⟨j, hj, rfl⟩
  · exact zx_depb h (zy_depb h ⟨rfl, zz_in hO hK hN hL hM hkn⟩)
  · exact zx_dep hO hK hN hkn hj (fun xb xd xe xt xo hk => zy_dep hO hL hM hj (fun ck cn co aw => ⟨rfl, zz_in hO hK hN hL hM (Or.inr ⟨rfl, hk⟩)⟩))
theorem i_vc_visible {k : Nat} {u : SX} {v : SY} (I : i_Rel k u v) (hk : k + 3 ≤ 1536) (v1 : Int32) : wpX_visible (fun r u' => wpY_visible (fun r' v' => r' = r ∧ i_Rel (k + 3) u' v') v v1) u v1 := by
  refine zz_el (P := fun u v => wpX_visible (fun r u' => wpY_visible (fun r' v' => r' = r ∧ i_Rel (k + 3) u' v') v v1) u v1) ?_ I
  intro K N sz kn xk xn xb xd xe xt xo yk yn ck cn co aw hO hK hN hL hM hkn
  rcases zz_ix (v := v1) hO.1 with h | ⟨j, hj, rfl⟩
  · exact zx_vib h (zy_vib hO hL hM h (fun ck cn co aw => ⟨rfl, zz_in hO hK hN hL hM hkn⟩))
  · exact zx_vi hO hK hN hkn hj (fun xb xd xe xt xo hk => zy_vi hO hL hM hj (fun ck cn co aw => ⟨rfl, zz_in hO hK hN hL hM (Or.inr ⟨rfl, hk⟩)⟩))
end
