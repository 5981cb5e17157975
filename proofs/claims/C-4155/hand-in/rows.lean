section
/-! pure rows to paste: stores, nI and lN arithmetic, masks, shifts, narrowing, branches by naturals (pk_le, pk_lt, pk_eq), loops (lp1 .. lp16: the measure of the state; rp1 ..: recursion), negatives. Take what you need -/
theorem pk_us {f : Nat → Int32} {k : Nat} {x : Int32} : upd f k x k = x := if_pos rfl
theorem pk_un {f : Nat → Int32} {k j : Nat} {x : Int32} (h : j ≠ k) : upd f k x j = f j := if_neg h
theorem pk_sub {a b : Nat} (h : b ≤ a) : nI a - nI b = nI (a - b) := by
  obtain ⟨c, rfl⟩ : ∃ c, a = c + b := ⟨a - b, by omega⟩
  rw [← nI_add, Int32.add_sub_cancel, Nat.add_sub_cancel]
theorem pk_m1 (n : Nat) : nI (n + 1) + (-1) = nI n := by
  rw [← nI_1, Int32.add_assoc, show (1 : Int32) + (-1) = 0 from rfl, Int32.add_zero]
theorem pk_mul (a b : Nat) : nI a * nI b = nI (a * b) := (Int32.ofNat_mul a b).symm
theorem pk_div {a d : Nat} (ha : a < 2 ^ 31) (h0 : 0 < d) (hd : d < 2 ^ 31) : nI a / nI d = nI (a / d) := by
  apply Int32.toInt_inj.mp
  rw [lg_idiv_nonneg (by rw [nI_toInt ha]; omega) (by rw [nI_toInt hd]; omega), nI_toInt ha, nI_toInt hd, nI_toInt (Nat.lt_of_le_of_lt (Nat.div_le_self a d) ha)]
  first | rfl | exact (Int.natCast_ediv _ _).symm
theorem pk_rem {a d : Nat} (ha : a < 2 ^ 31) (h0 : 0 < d) (hd : d < 2 ^ 31) : nI a - nI a / nI d * nI d = nI (a % d) := by
  rw [pk_div ha h0 hd, pk_mul, pk_sub (Nat.div_mul_le_self a d)]
  exact congrArg nI (by have := Nat.div_add_mod' a d; omega)
theorem pk_sub_toInt {a b : Nat} (ha : a < 2 ^ 30) (hb : b < 2 ^ 30) : (nI a - nI b).toInt = (a : Int) - b := by
  rw [Int32.toInt_sub, nI_toInt (by omega), nI_toInt (by omega)]
  exact Int.bmod_eq_of_le (by omega) (by omega)
theorem pk_sneg {a b : Nat} (hb : b < 2 ^ 30) (h : a < b) : nI a - nI b < 0 := by
  rw [Int32.lt_iff_toInt_lt, pk_sub_toInt (by omega) hb, show (0 : Int32).toInt = 0 from by decide]
  omega
theorem pk_ix (x : Int32) {n : Nat} (hn : n < 2 ^ 31) : x < 0 ∨ nI n ≤ x ∨ ∃ j : Nat, j < n ∧ x = nI j := by
  by_cases h : x < 0
  · exact Or.inl h
  · obtain ⟨j, hj, rfl⟩ := nI_of h
    by_cases h2 : j < n
    · exact Or.inr (Or.inr ⟨j, h2, rfl⟩)
    · exact Or.inr (Or.inl (nI_le (by omega) hj))
theorem pk_le {x y : Int32} {A B : Prop} (a b : Nat) (f : a ≤ b → A) (g : b < a → B) (hx : x = nI a := by rfl) (hy : y = nI b := by rfl) (ha : a < 2 ^ 31 := by omega) (hb : b < 2 ^ 31 := by omega) : (x ≤ y → A) ∧ (¬ x ≤ y → B) := by
  subst hx hy
  rw [nI_leI ha hb]
  exact ⟨f, fun z => g (by omega)⟩
theorem pk_lt {x y : Int32} {A B : Prop} (a b : Nat) (f : a < b → A) (g : b ≤ a → B) (hx : x = nI a := by rfl) (hy : y = nI b := by rfl) (ha : a < 2 ^ 31 := by omega) (hb : b < 2 ^ 31 := by omega) : (x < y → A) ∧ (¬ x < y → B) := by
  subst hx hy
  rw [nI_ltI ha hb]
  exact ⟨f, fun z => g (by omega)⟩
theorem pk_eq {x y : Int32} {A B : Prop} (a b : Nat) (f : a = b → A) (g : a ≠ b → B) (hx : x = nI a := by rfl) (hy : y = nI b := by rfl) (ha : a < 2 ^ 31 := by omega) (hb : b < 2 ^ 31 := by omega) : (x = y → A) ∧ (¬ x = y → B) := by
  subst hx hy
  rw [nI_eq ha hb]
  exact ⟨f, g⟩
theorem pk_in {x : Int32} (n N : Nat) (h : n < N) (hx : x = nI n := by rfl) (hN : N < 2 ^ 31 := by omega) : vp_in x N := by
  subst hx
  exact vp_in_nI h hN
theorem pk_cl {x : Int32} (n : Nat) (hx : x = nI n := by rfl) (h : n < 2 ^ 31 := by omega) : x.toNatClampNeg = n := by
  subst hx
  exact nI_clamp h
theorem pk_tn {n : Nat} (h : n < 2 ^ 32) : (nI n).toBitVec.toNat = n := Nat.mod_eq_of_lt h
theorem pk_and (x : Int32) {m : Int32} (k : Nat) (hm : m.toBitVec.toNat = 2 ^ k - 1) : x &&& m = nI (x.toBitVec.toNat % 2 ^ k) := by
  apply Int32.toBitVec_inj.mp
  apply BitVec.eq_of_toNat_eq
  rw [Int32.toBitVec_and, BitVec.toNat_and, hm, Nat.and_two_pow_sub_one_eq_mod]
  show _ = (BitVec.ofNat 32 _).toNat
  rw [BitVec.toNat_ofNat]
  exact (Nat.mod_eq_of_lt (Nat.lt_of_le_of_lt (Nat.mod_le _ _) x.toBitVec.isLt)).symm
theorem pk_andN {n : Nat} (h : n < 2 ^ 32) {m : Int32} (k : Nat) (hm : m.toBitVec.toNat = 2 ^ k - 1) : nI n &&& m = nI (n % 2 ^ k) := by
  rw [pk_and _ k hm, pk_tn h]
theorem pk_andE (x : Int32) {m : Int32} (k : Nat) (hm : m.toBitVec.toNat = 2 ^ k - 1) : ∃ j : Nat, j < 2 ^ k ∧ x &&& m = nI j := ⟨_, Nat.mod_lt _ (Nat.two_pow_pos k), pk_and x k hm⟩
theorem pk_andIn (x : Int32) {m : Int32} (k : Nat) (hm : m.toBitVec.toNat = 2 ^ k - 1) (hk : k ≤ 30) : vp_in (x &&& m) (2 ^ k) := by
  obtain ⟨j, hj, e⟩ := pk_andE x k hm
  rw [e]
  exact vp_in_nI hj (Nat.lt_of_le_of_lt (Nat.pow_le_pow_right (by decide) hk) (by decide))
end
section
/-! the pure network: a process's state (made, read of x, read of y, the sum so far), its steps over content functions -/
abbrev kn_S : Type := Nat × Nat × Nat × Int32

def kn_en (k lx ly : Nat) (s : kn_S) : Prop :=
  s.1 < 40 ∧ (match k with
    | 0 => True
    | 1 => s.1 < 5
    | 2 => s.2.1 < lx ∧ s.2.2.1 < ly
    | 3 => (s.1 % 2 = 0 → s.2.1 < lx) ∧ (s.1 % 2 = 1 → s.2.2.1 < ly)
    | 4 => s.2.1 < lx
    | 5 => 0 < s.1 → s.2.1 < lx
    | 6 => s.2.1 < lx ∧ s.2.2.1 < ly
    | _ => s.2.1 < lx)

def kn_v (k : Nat) (a : Int32) (gx gy : Nat → Int32) (s : kn_S) : Int32 :=
  match k with
  | 0 => a + nI s.1
  | 1 => a * (2 * nI s.1 + 1)
  | 2 => gx s.2.1 + gy s.2.2.1
  | 3 => if s.1 % 2 = 0 then gx s.2.1 else gy s.2.2.1
  | 4 => gx s.2.1
  | 5 => if s.1 = 0 then a else gx s.2.1
  | 6 => if gy s.2.2.1 < gx s.2.1 then gy s.2.2.1 else gx s.2.1
  | _ => s.2.2.2 + gx s.2.1

def kn_m (k : Nat) (gx : Nat → Int32) (s : kn_S) : Nat :=
  if k = 4 ∧ ¬ ((gx s.2.1 &&& 1) = 1) then 0 else 1

def kn_nx (k : Nat) (gx gy : Nat → Int32) (s : kn_S) : kn_S :=
  match k with
  | 0 => (s.1 + 1, s.2.1, s.2.2.1, s.2.2.2)
  | 1 => (s.1 + 1, s.2.1, s.2.2.1, s.2.2.2)
  | 2 => (s.1 + 1, s.2.1 + 1, s.2.2.1 + 1, s.2.2.2)
  | 3 => if s.1 % 2 = 0 then (s.1 + 1, s.2.1 + 1, s.2.2.1, s.2.2.2) else (s.1 + 1, s.2.1, s.2.2.1 + 1, s.2.2.2)
  | 4 => if (gx s.2.1 &&& 1) = 1 then (s.1 + 1, s.2.1 + 1, s.2.2.1, s.2.2.2) else (s.1, s.2.1 + 1, s.2.2.1, s.2.2.2)
  | 5 => if s.1 = 0 then (s.1 + 1, s.2.1, s.2.2.1, s.2.2.2) else (s.1 + 1, s.2.1 + 1, s.2.2.1, s.2.2.2)
  | 6 => if gy s.2.2.1 < gx s.2.1 then (s.1 + 1, s.2.1, s.2.2.1 + 1, s.2.2.2) else (s.1 + 1, s.2.1 + 1, s.2.2.1, s.2.2.2)
  | _ => (s.1 + 1, s.2.1 + 1, s.2.2.1, s.2.2.2 + gx s.2.1)

def kn_tr (k : Nat) (gx gy : Nat → Int32) : Nat → kn_S
  | 0 => (0, 0, 0, 0)
  | j + 1 => kn_nx k gx gy (kn_tr k gx gy j)

theorem kn_c8 {k : Nat} (h : k ≤ 7) : k = 0 ∨ k = 1 ∨ k = 2 ∨ k = 3 ∨ k = 4 ∨ k = 5 ∨ k = 6 ∨ k = 7 := by omega

theorem kn_m01 (k : Nat) (gx : Nat → Int32) (s : kn_S) : kn_m k gx s = 0 ∨ kn_m k gx s = 1 := by
  unfold kn_m; split
  · exact Or.inl rfl
  · exact Or.inr rfl

theorem kn_m_ne4 {k : Nat} (h : k ≠ 4) (gx : Nat → Int32) (s : kn_S) : kn_m k gx s = 1 := by
  unfold kn_m; rw [if_neg]; exact fun z => h z.1

theorem kn_nx1 {k : Nat} (hk : k ≤ 7) (gx gy : Nat → Int32) (s : kn_S) : (kn_nx k gx gy s).1 = s.1 + kn_m k gx s := by
  rcases kn_c8 hk with rfl | rfl | rfl | rfl | rfl | rfl | rfl | rfl
  · rw [kn_m_ne4 (by decide)]; rfl
  · rw [kn_m_ne4 (by decide)]; rfl
  · rw [kn_m_ne4 (by decide)]; rfl
  · rw [kn_m_ne4 (by decide)]; simp only [kn_nx]; split <;> rfl
  · simp only [kn_nx, kn_m]
    by_cases h : (gx s.2.1 &&& 1) = 1
    · simp [h]
    · simp [h]
  · rw [kn_m_ne4 (by decide)]; simp only [kn_nx]; split <;> rfl
  · rw [kn_m_ne4 (by decide)]; simp only [kn_nx]; split <;> rfl
  · rw [kn_m_ne4 (by decide)]; rfl

theorem kn_tr_s (k : Nat) (gx gy : Nat → Int32) (j : Nat) : kn_tr k gx gy (j + 1) = kn_nx k gx gy (kn_tr k gx gy j) := rfl

theorem kn_mono1 {k : Nat} (hk : k ≤ 7) (gx gy : Nat → Int32) (i d : Nat) : (kn_tr k gx gy i).1 ≤ (kn_tr k gx gy (i + d)).1 := by
  induction d with
  | zero => exact Nat.le_refl _
  | succ d ih =>
    rw [← Nat.add_assoc, kn_tr_s, kn_nx1 hk]
    omega

theorem kn_mono {k : Nat} (hk : k ≤ 7) (gx gy : Nat → Int32) {i j : Nat} (h : i ≤ j) : (kn_tr k gx gy i).1 ≤ (kn_tr k gx gy j).1 := by
  have e := kn_mono1 hk gx gy i (j - i)
  rw [show i + (j - i) = j by omega] at e
  exact e

theorem kn_en_mono {k lx ly lx' ly' : Nat} {s : kn_S} (hk : k ≤ 7) (h1 : lx ≤ lx') (h2 : ly ≤ ly') (h : kn_en k lx ly s) : kn_en k lx' ly' s := by
  rcases kn_c8 hk with rfl | rfl | rfl | rfl | rfl | rfl | rfl | rfl <;> simp only [kn_en] at h ⊢ <;> omega

theorem kn_nx_st {k lx ly : Nat} {a : Int32} {gx gy gx' gy' : Nat → Int32} {s : kn_S} (hk : k ≤ 7) (h : kn_en k lx ly s)
    (h1 : ∀ i, i < lx → gx i = gx' i) (h2 : ∀ i, i < ly → gy i = gy' i) :
    kn_nx k gx gy s = kn_nx k gx' gy' s ∧ kn_v k a gx gy s = kn_v k a gx' gy' s ∧ kn_m k gx s = kn_m k gx' s := by
  rcases kn_c8 hk with rfl | rfl | rfl | rfl | rfl | rfl | rfl | rfl
  · exact ⟨rfl, rfl, rfl⟩
  · exact ⟨rfl, rfl, rfl⟩
  · have e1 := h1 _ h.2.1
    have e2 := h2 _ h.2.2
    simp only [kn_nx, kn_v, kn_m, e1, e2]
    exact ⟨by trivial, by trivial, by trivial⟩
  · refine ⟨rfl, ?_, rfl⟩
    simp only [kn_v]
    by_cases z : s.1 % 2 = 0
    · rw [if_pos z, if_pos z]; exact h1 _ (h.2.1 z)
    · rw [if_neg z, if_neg z]; exact h2 _ (h.2.2 (by omega))
  · have e1 := h1 _ h.2
    simp only [kn_nx, kn_v, kn_m, e1]
    exact ⟨by trivial, by trivial, by trivial⟩
  · refine ⟨rfl, ?_, rfl⟩
    simp only [kn_v]
    by_cases z : s.1 = 0
    · rw [if_pos z, if_pos z]
    · rw [if_neg z, if_neg z]; exact h1 _ (h.2 (by omega))
  · have e1 := h1 _ h.2.1
    have e2 := h2 _ h.2.2
    simp only [kn_nx, kn_v, kn_m, e1, e2]
    exact ⟨by trivial, by trivial, by trivial⟩
  · have e1 := h1 _ h.2
    simp only [kn_nx, kn_v, kn_m, e1]
    exact ⟨by trivial, by trivial, by trivial⟩

theorem kn_tr_n {k : Nat} (hk : k ≤ 7) (h4 : k ≠ 4) (gx gy : Nat → Int32) (j : Nat) : (kn_tr k gx gy j).1 = j := by
  induction j with
  | zero => rfl
  | succ j ih => rw [kn_tr_s, kn_nx1 hk, kn_m_ne4 h4, ih]

theorem kn_tr_4 (gx gy : Nat → Int32) (j : Nat) : (kn_tr 4 gx gy j).2.1 = j := by
  induction j with
  | zero => rfl
  | succ j ih =>
    rw [kn_tr_s]
    simp only [kn_nx]
    split
    · show (kn_tr 4 gx gy j).2.1 + 1 = _
      rw [ih]
    · show (kn_tr 4 gx gy j).2.1 + 1 = _
      rw [ih]

theorem kn_j40 {k lx ly : Nat} (hk : k ≤ 7) (hl : lx ≤ 40) (gx gy : Nat → Int32) {j : Nat} (h : ∀ i, i < j → kn_en k lx ly (kn_tr k gx gy i)) : j ≤ 40 := by
  rcases j with _ | i
  · omega
  · have e := h i (by omega)
    by_cases h4 : k = 4
    · subst h4
      have e2 : (kn_tr 4 gx gy i).2.1 < lx := e.2
      rw [kn_tr_4] at e2
      omega
    · have e2 := e.1
      rw [kn_tr_n hk h4] at e2
      omega

/-! a net of eight -/
def kn_T (K A B : Nat → Nat) (G : Nat → Nat → Int32) (p j : Nat) : kn_S := kn_tr (K p) (G (A p)) (G (B p)) j
def kn_E (K A B : Nat → Nat) (l : Nat → Nat) (G : Nat → Nat → Int32) (p j : Nat) : Prop := kn_en (K p) (l (A p)) (l (B p)) (kn_T K A B G p j)
def kn_V (K A B : Nat → Nat) (N : Nat → Int32) (G : Nat → Nat → Int32) (p j : Nat) : Int32 := kn_v (K p) (N p) (G (A p)) (G (B p)) (kn_T K A B G p j)
def kn_M (K A B : Nat → Nat) (G : Nat → Nat → Int32) (p j : Nat) : Nat := kn_m (K p) (G (A p)) (kn_T K A B G p j)
def kn_L (K A B : Nat → Nat) (G : Nat → Nat → Int32) (c : Nat → Nat) (q : Nat) : Nat := (kn_T K A B G q (c q)).1
def kn_W (K A B : Nat → Nat) : Prop := ∀ p, p < 8 → K p ≤ 7 ∧ A p < 8 ∧ B p < 8
def kn_Cl (K A B : Nat → Nat) (G : Nat → Nat → Int32) (l : Nat → Nat) : Prop :=
  ∀ p, p < 8 → ∀ j, (∀ i, i ≤ j → kn_E K A B l G p i) → (kn_T K A B G p (j + 1)).1 ≤ l p
def kn_Va (K A B : Nat → Nat) (N : Nat → Int32) (G : Nat → Nat → Int32) (l : Nat → Nat) : Prop :=
  ∀ p, p < 8 → ∀ j, (∀ i, i ≤ j → kn_E K A B l G p i) → kn_M K A B G p j = 1 → G p (kn_T K A B G p j).1 = kn_V K A B N G p j
def kn_Lfp (K A B : Nat → Nat) (N : Nat → Int32) (g : Nat → Nat) (G : Nat → Nat → Int32) : Prop :=
  (∀ p, p < 8 → g p ≤ 40) ∧ kn_Cl K A B G g ∧ kn_Va K A B N G g ∧ (∀ l, kn_Cl K A B G l → ∀ p, p < 8 → g p ≤ l p)

def kn_u (f : Nat → Nat) (k v : Nat) : Nat → Nat := fun j => if j = k then v else f j
theorem kn_us {f : Nat → Nat} {k v : Nat} : kn_u f k v k = v := if_pos rfl
theorem kn_un {f : Nat → Nat} {k v j : Nat} (h : j ≠ k) : kn_u f k v j = f j := if_neg h

def kn_s8 (f : Nat → Nat) : Nat := f 0 + f 1 + f 2 + f 3 + f 4 + f 5 + f 6 + f 7
theorem kn_s8_le {f : Nat → Nat} {b : Nat} (h : ∀ p, p < 8 → f p ≤ b) : kn_s8 f ≤ 8 * b := by
  have h0 := h 0 (by omega); have h1 := h 1 (by omega); have h2 := h 2 (by omega); have h3 := h 3 (by omega)
  have h4 := h 4 (by omega); have h5 := h 5 (by omega); have h6 := h 6 (by omega); have h7 := h 7 (by omega)
  unfold kn_s8; omega
theorem kn_s8_mono {f f' : Nat → Nat} (h : ∀ p, p < 8 → f p ≤ f' p) : kn_s8 f ≤ kn_s8 f' := by
  have h0 := h 0 (by omega); have h1 := h 1 (by omega); have h2 := h 2 (by omega); have h3 := h 3 (by omega)
  have h4 := h 4 (by omega); have h5 := h 5 (by omega); have h6 := h 6 (by omega); have h7 := h 7 (by omega)
  unfold kn_s8; omega
theorem kn_s8_lt {f f' : Nat → Nat} {q : Nat} (hq : q < 8) (h : ∀ p, p < 8 → f p ≤ f' p) (hl : f q < f' q) : kn_s8 f + 1 ≤ kn_s8 f' := by
  have h0 := h 0 (by omega); have h1 := h 1 (by omega); have h2 := h 2 (by omega); have h3 := h 3 (by omega)
  have h4 := h 4 (by omega); have h5 := h 5 (by omega); have h6 := h 6 (by omega); have h7 := h 7 (by omega)
  have hc : q = 0 ∨ q = 1 ∨ q = 2 ∨ q = 3 ∨ q = 4 ∨ q = 5 ∨ q = 6 ∨ q = 7 := by omega
  unfold kn_s8
  rcases hc with rfl | rfl | rfl | rfl | rfl | rfl | rfl | rfl <;> omega
theorem kn_s8_u {f : Nat → Nat} {q : Nat} (hq : q < 8) : kn_s8 f + 1 ≤ kn_s8 (kn_u f q (f q + 1)) := by
  refine kn_s8_lt hq ?_ ?_
  · intro p _
    by_cases e : p = q
    · subst e; rw [kn_us]; omega
    · rw [kn_un e]; omega
  · rw [kn_us]; omega
end
section
/-! the least fixed point exists -/
section
variable {K A B : Nat → Nat} {N : Nat → Int32}

theorem kn_T_s (G : Nat → Nat → Int32) (p j : Nat) : kn_T K A B G p (j + 1) = kn_nx (K p) (G (A p)) (G (B p)) (kn_T K A B G p j) := rfl
theorem kn_T_0 (G : Nat → Nat → Int32) (p : Nat) : kn_T K A B G p 0 = (0, 0, 0, 0) := rfl

theorem kn_T_n (hW : kn_W K A B) {p : Nat} (hp : p < 8) (G : Nat → Nat → Int32) (j : Nat) :
    (kn_T K A B G p (j + 1)).1 = (kn_T K A B G p j).1 + kn_M K A B G p j := kn_nx1 (hW p hp).1 _ _ _

theorem kn_T_mono (hW : kn_W K A B) {p : Nat} (hp : p < 8) (G : Nat → Nat → Int32) {i j : Nat} (h : i ≤ j) :
    (kn_T K A B G p i).1 ≤ (kn_T K A B G p j).1 := kn_mono (hW p hp).1 _ _ h

theorem kn_E_mono (hW : kn_W K A B) {l l' : Nat → Nat} {G : Nat → Nat → Int32} {p j : Nat} (hp : p < 8)
    (hl : ∀ q, q < 8 → l q ≤ l' q) (h : kn_E K A B l G p j) : kn_E K A B l' G p j :=
  kn_en_mono (hW p hp).1 (hl _ (hW p hp).2.1) (hl _ (hW p hp).2.2) h

theorem kn_T40 (hW : kn_W K A B) {l : Nat → Nat} {G : Nat → Nat → Int32} {p c : Nat} (hp : p < 8)
    (h : ∀ j, j < c → kn_E K A B l G p j) : (kn_T K A B G p c).1 ≤ 40 := by
  rcases c with _ | i
  · exact Nat.zero_le _
  · have e : (kn_T K A B G p i).1 < 40 := (h i (by omega)).1
    have e2 := kn_T_n hW hp G i
    rcases kn_m01 (K p) (G (A p)) (kn_T K A B G p i) with m | m
    · unfold kn_M at e2; omega
    · unfold kn_M at e2; omega

/-- contents that agree below the lengths: the same trajectory as far as it is enabled -/
theorem kn_T_st (hW : kn_W K A B) {l : Nat → Nat} {G G' : Nat → Nat → Int32} {p : Nat} (hp : p < 8)
    (ha : ∀ q, q < 8 → ∀ i, i < l q → G q i = G' q i) : ∀ j, (∀ i, i < j → kn_E K A B l G p i) → kn_T K A B G' p j = kn_T K A B G p j := by
  intro j
  induction j with
  | zero => intro _; rfl
  | succ j ih =>
    intro h
    rw [kn_T_s, kn_T_s, ih (fun i hi => h i (by omega))]
    exact ((kn_nx_st (a := 0) (hW p hp).1 (h j (by omega)) (ha _ (hW p hp).2.1) (ha _ (hW p hp).2.2)).1).symm

theorem kn_V_st (hW : kn_W K A B) {l : Nat → Nat} {G G' : Nat → Nat → Int32} {p : Nat} (hp : p < 8)
    (ha : ∀ q, q < 8 → ∀ i, i < l q → G q i = G' q i) (j : Nat) (h : ∀ i, i ≤ j → kn_E K A B l G p i) :
    kn_V K A B N G' p j = kn_V K A B N G p j ∧ kn_M K A B G' p j = kn_M K A B G p j := by
  have e := kn_T_st hW hp ha j (fun i hi => h i (by omega))
  have e2 := kn_nx_st (a := N p) (hW p hp).1 (h j (by omega)) (ha _ (hW p hp).2.1) (ha _ (hW p hp).2.2)
  unfold kn_V kn_M
  rw [e]
  exact ⟨e2.2.1.symm, e2.2.2.symm⟩

def kn_Snd (K A B : Nat → Nat) (N : Nat → Int32) (G : Nat → Nat → Int32) (c : Nat → Nat) : Prop :=
  ∀ p, p < 8 → ∀ j, j < c p → kn_E K A B (kn_L K A B G c) G p j ∧ (kn_M K A B G p j = 1 → G p (kn_T K A B G p j).1 = kn_V K A B N G p j)
def kn_Lst (K A B : Nat → Nat) (G : Nat → Nat → Int32) (c : Nat → Nat) : Prop :=
  ∀ (G' : Nat → Nat → Int32) (l' : Nat → Nat), (∀ p, p < 8 → ∀ i, i < kn_L K A B G c p → G p i = G' p i) → kn_Cl K A B G' l' → ∀ p, p < 8 → kn_L K A B G c p ≤ l' p

theorem kn_stp (hW : kn_W K A B) {G : Nat → Nat → Int32} {c : Nat → Nat} (hs : kn_Snd K A B N G c) (hL : kn_Lst K A B G c)
    {p0 : Nat} (hp0 : p0 < 8) (he : kn_E K A B (kn_L K A B G c) G p0 (c p0)) :
    ∃ G', kn_Snd K A B N G' (kn_u c p0 (c p0 + 1)) ∧ kn_Lst K A B G' (kn_u c p0 (c p0 + 1)) := by
  let G' : Nat → Nat → Int32 := fun q i => if q = p0 ∧ i = kn_L K A B G c p0 then kn_V K A B N G p0 (c p0) else G q i
  have gp : ∀ q i, (q = p0 ∧ i = kn_L K A B G c p0) → G' q i = kn_V K A B N G p0 (c p0) := fun q i z => if_pos z
  have gn : ∀ q i, ¬ (q = p0 ∧ i = kn_L K A B G c p0) → G' q i = G q i := fun q i z => if_neg z
  have ha : ∀ q, q < 8 → ∀ i, i < kn_L K A B G c q → G q i = G' q i := by
    intro q _ i hi
    refine (gn q i ?_).symm
    rintro ⟨rfl, z⟩
    omega
  have hE : ∀ q, q < 8 → ∀ j, j < kn_u c p0 (c p0 + 1) q → kn_E K A B (kn_L K A B G c) G q j := by
    intro q hq j hj
    by_cases e : q = p0
    · subst e
      rw [kn_us] at hj
      by_cases z : j = c q
      · subst z; exact he
      · exact (hs q hq j (by omega)).1
    · rw [kn_un e] at hj
      exact (hs q hq j hj).1
  have hT : ∀ q, q < 8 → ∀ j, j ≤ kn_u c p0 (c p0 + 1) q → kn_T K A B G' q j = kn_T K A B G q j := by
    intro q hq j hj
    exact kn_T_st hW hq ha j (fun i hi => hE q hq i (by omega))
  have hl : ∀ q, q < 8 → kn_L K A B G c q ≤ kn_L K A B G' (kn_u c p0 (c p0 + 1)) q := by
    intro q hq
    unfold kn_L
    rw [hT q hq _ (Nat.le_refl _)]
    refine kn_T_mono hW hq G ?_
    by_cases e : q = p0
    · subst e; rw [kn_us]; omega
    · rw [kn_un e]; exact Nat.le_refl _
  refine ⟨G', ?_, ?_⟩
  · intro q hq j hj
    refine ⟨?_, ?_⟩
    · have e1 := kn_E_mono hW hq hl (hE q hq j hj)
      unfold kn_E at e1 ⊢
      rw [hT q hq j (by omega)]
      exact e1
    · obtain ⟨eV, eM⟩ := kn_V_st (N := N) hW hq ha j (fun i hi => hE q hq i (by omega))
      rw [eV, eM, hT q hq j (by omega)]
      intro hm
      by_cases z : q = p0 ∧ j = c p0
      · obtain ⟨rfl, rfl⟩ := z
        exact gp _ _ ⟨rfl, rfl⟩
      · have hj' : j < c q := by
          by_cases e : q = p0
          · subst e
            rw [kn_us] at hj
            have : j ≠ c q := fun y => z ⟨rfl, y⟩
            omega
          · rw [kn_un e] at hj; exact hj
        have e1 := kn_T_n hW hq G j
        have e2 := kn_T_mono hW hq G (i := j + 1) (j := c q) hj'
        rw [gn _ _ ?_]
        · exact (hs q hq j hj').2 hm
        · rintro ⟨rfl, y⟩
          unfold kn_L at y
          omega
  · intro G2 l2 ha2 hc2 q hq
    have ha3 : ∀ p, p < 8 → ∀ i, i < kn_L K A B G c p → G p i = G2 p i := by
      intro p hp i hi
      rw [ha p hp i hi]
      exact ha2 p hp i (Nat.lt_of_lt_of_le hi (hl p hp))
    have hb := hL G2 l2 ha3 hc2
    by_cases e : q = p0
    · subst e
      have hE2 : ∀ i, i ≤ c q → kn_E K A B l2 G2 q i := by
        intro i hi
        have e1 := kn_E_mono hW hq hb (hE q hq i (by rw [kn_us]; omega))
        unfold kn_E at e1 ⊢
        rw [kn_T_st hW hq ha3 i (fun i' hi' => hE q hq i' (by rw [kn_us]; omega))]
        exact e1
      have e2 := hc2 q hq (c q) hE2
      rw [kn_T_st hW hq ha3 (c q + 1) (fun i' hi' => hE q hq i' (by rw [kn_us]; omega))] at e2
      unfold kn_L
      rw [hT q hq _ (Nat.le_refl _), kn_us]
      exact e2
    · have e1 := hb q hq
      unfold kn_L at e1 ⊢
      rw [hT q hq _ (Nat.le_refl _), kn_un e]
      exact e1

theorem kn_L40 (hW : kn_W K A B) {G : Nat → Nat → Int32} {c : Nat → Nat} (hs : kn_Snd K A B N G c) {p : Nat} (hp : p < 8) :
    kn_L K A B G c p ≤ 40 := kn_T40 hW hp (fun j hj => (hs p hp j hj).1)

theorem kn_run (hW : kn_W K A B) : ∀ (m : Nat) (G : Nat → Nat → Int32) (c : Nat → Nat), kn_Snd K A B N G c → kn_Lst K A B G c → 321 ≤ kn_s8 c + m →
    ∃ (G : Nat → Nat → Int32) (c : Nat → Nat), kn_Snd K A B N G c ∧ kn_Lst K A B G c ∧ ∀ p, p < 8 → ¬ kn_E K A B (kn_L K A B G c) G p (c p) := by
  intro m
  induction m with
  | zero =>
    intro G c hs _ hm
    exfalso
    have hb : kn_s8 c ≤ 8 * 40 := by
      refine kn_s8_le ?_
      intro p hp
      exact kn_j40 (hW p hp).1 (kn_L40 hW hs (hW p hp).2.1) _ _ (fun i hi => (hs p hp i hi).1)
    omega
  | succ m ih =>
    intro G c hs hL hm
    by_cases h : ∃ p, p < 8 ∧ kn_E K A B (kn_L K A B G c) G p (c p)
    · obtain ⟨p, hp, he⟩ := h
      obtain ⟨G', h1, h2⟩ := kn_stp hW hs hL hp he
      refine ih G' _ h1 h2 ?_
      have := kn_s8_u (f := c) hp
      omega
    · exact ⟨G, c, hs, hL, fun p hp z => h ⟨p, hp, z⟩⟩

theorem kn_ex (hW : kn_W K A B) (N : Nat → Int32) : ∃ (g : Nat → Nat) (G : Nat → Nat → Int32), kn_Lfp K A B N g G := by
  obtain ⟨G, c, hs, hL, hb⟩ := kn_run (N := N) hW 321 (fun _ _ => 0) (fun _ => 0) (fun p hp j hj => absurd hj (Nat.not_lt_zero _))
    (fun _ _ _ _ p _ => Nat.zero_le _) (by omega)
  have hlt : ∀ p, p < 8 → ∀ j, (∀ i, i ≤ j → kn_E K A B (kn_L K A B G c) G p i) → j < c p := by
    intro p hp j hj
    by_cases z : j < c p
    · exact z
    · exact absurd (hj (c p) (by omega)) (hb p hp)
  refine ⟨kn_L K A B G c, G, fun p hp => kn_L40 hW hs hp, ?_, ?_, ?_⟩
  · intro p hp j hj
    exact kn_T_mono hW hp G (hlt p hp j hj)
  · intro p hp j hj hm
    exact (hs p hp j (hlt p hp j hj)).2 hm
  · intro l hc p hp
    exact hL G l (fun _ _ _ _ => rfl) hc p hp

/-! what both sides use -/
theorem kn_snd {g : Nat → Nat} {G : Nat → Nat → Int32} (hF : kn_Lfp K A B N g G) {p c : Nat} (hp : p < 8)
    (h : ∀ j, j < c → kn_E K A B g G p j) : (kn_T K A B G p c).1 ≤ g p := by
  rcases c with _ | i
  · exact Nat.zero_le _
  · exact hF.2.1 p hp i (fun j hj => h j (by omega))

theorem kn_full (hW : kn_W K A B) {g : Nat → Nat} {G : Nat → Nat → Int32} (hF : kn_Lfp K A B N g G) {c : Nat → Nat}
    (h : ∀ p, p < 8 → ∀ j, j < c p → kn_E K A B g G p j) (hb : ∀ p, p < 8 → ¬ kn_E K A B (kn_L K A B G c) G p (c p)) :
    ∀ p, p < 8 → kn_L K A B G c p = g p := by
  intro p hp
  have h1 : kn_L K A B G c p ≤ g p := kn_snd hF hp (h p hp)
  have h2 : g p ≤ kn_L K A B G c p := by
    refine hF.2.2.2 _ ?_ p hp
    intro q hq j hj
    by_cases z : j < c q
    · exact kn_T_mono hW hq G z
    · exact absurd (hj (c q) (by omega)) (hb q hq)
  omega
end
end
section
/-! X: the small methods, one lemma each, over plain equations -/
theorem kn_ix (x r : Nat) : nI x * 40 + nI r = nI (x * 40 + r) := by
  rw [show (40 : Int32) = nI 40 from rfl, pk_mul, nI_add]
theorem kn_v8 {p : Nat} (hp : p < 8) : vp_in (nI p) 8 := vp_in_nI hp (by decide)
theorem kn_bn1 : vp_nar .boolean 1 = 1 := rfl
theorem kn_bn0 : vp_nar .boolean 0 = 0 := rfl
theorem kn_par {n : Nat} (h : n < 2 ^ 31) : nI n &&& 1 = nI (n % 2) := pk_andN (by omega) 1 (by decide)

section
variable {w h : Int32} {kd ix iy nu ma rx ry tl it ri li : Nat → Int32}

theorem xw_hasX {post : Int32 → Prop} {p x r n : Nat} (hp : p < 8) (ex : ix p = nI x) (hx : x < 8) (er : rx p = nI r) (en : ma x = nI n)
    (hr : r < 2 ^ 31) (hn : n ≤ 40) (h0 : n ≤ r → post 0) (h1 : r < n → post 1) :
    wpX_hasX post (w, h, kd, ix, iy, nu, ma, rx, ry, tl, it, ri, li) (nI p) := by
  unfold wpX_hasX
  dsimp only
  rw [nI_clamp (show p < 2 ^ 31 by omega), ex, nI_clamp (show x < 2 ^ 31 by omega), er, en]
  exact ⟨kn_v8 hp, kn_v8 hp, kn_v8 hx, pk_le n r h0 h1 rfl rfl (by omega) hr⟩

theorem xw_hasY {post : Int32 → Prop} {p x r n : Nat} (hp : p < 8) (ex : iy p = nI x) (hx : x < 8) (er : ry p = nI r) (en : ma x = nI n)
    (hr : r < 2 ^ 31) (hn : n ≤ 40) (h0 : n ≤ r → post 0) (h1 : r < n → post 1) :
    wpX_hasY post (w, h, kd, ix, iy, nu, ma, rx, ry, tl, it, ri, li) (nI p) := by
  unfold wpX_hasY
  dsimp only
  rw [nI_clamp (show p < 2 ^ 31 by omega), ex, nI_clamp (show x < 2 ^ 31 by omega), er, en]
  exact ⟨kn_v8 hp, kn_v8 hp, kn_v8 hx, pk_le n r h0 h1 rfl rfl (by omega) hr⟩

theorem xw_takeX {post : Int32 → SX → Prop} {p x r : Nat} (hp : p < 8) (ex : ix p = nI x) (hx : x < 8) (er : rx p = nI r) (hr : r < 40)
    (h0 : post (it (x * 40 + r)) (w, h, kd, ix, iy, nu, ma, upd rx p (nI (r + 1)), ry, tl, it, ri, li)) :
    wpX_takeX post (w, h, kd, ix, iy, nu, ma, rx, ry, tl, it, ri, li) (nI p) := by
  unfold wpX_takeX
  dsimp only
  rw [nI_clamp (show p < 2 ^ 31 by omega), ex, er, kn_ix, nI_clamp (show x * 40 + r < 2 ^ 31 by omega), nI_1 r]
  exact ⟨kn_v8 hp, kn_v8 hp, vp_in_nI (by omega) (by decide), nm_e ⟨kn_v8 hp, kn_v8 hp, nm_e h0⟩⟩

theorem xw_takeY {post : Int32 → SX → Prop} {p x r : Nat} (hp : p < 8) (ex : iy p = nI x) (hx : x < 8) (er : ry p = nI r) (hr : r < 40)
    (h0 : post (it (x * 40 + r)) (w, h, kd, ix, iy, nu, ma, rx, upd ry p (nI (r + 1)), tl, it, ri, li)) :
    wpX_takeY post (w, h, kd, ix, iy, nu, ma, rx, ry, tl, it, ri, li) (nI p) := by
  unfold wpX_takeY
  dsimp only
  rw [nI_clamp (show p < 2 ^ 31 by omega), ex, er, kn_ix, nI_clamp (show x * 40 + r < 2 ^ 31 by omega), nI_1 r]
  exact ⟨kn_v8 hp, kn_v8 hp, vp_in_nI (by omega) (by decide), nm_e ⟨kn_v8 hp, kn_v8 hp, nm_e h0⟩⟩

theorem xw_make {post : Int32 → SX → Prop} {p n : Nat} {v : Int32} (hp : p < 8) (en : ma p = nI n) (hn : n < 40)
    (h0 : post 1 (w, h, kd, ix, iy, nu, upd ma p (nI (n + 1)), rx, ry, tl, upd it (p * 40 + n) v, ri, li)) :
    wpX_make post (w, h, kd, ix, iy, nu, ma, rx, ry, tl, it, ri, li) (nI p) v := by
  unfold wpX_make
  dsimp only
  rw [nI_clamp (show p < 2 ^ 31 by omega), en, kn_ix, nI_clamp (show p * 40 + n < 2 ^ 31 by omega), nI_1 n]
  exact ⟨kn_v8 hp, vp_in_nI (by omega) (by decide), nm_e ⟨kn_v8 hp, kn_v8 hp, nm_e h0⟩⟩

theorem xw_stepOdd {post : Int32 → SX → Prop} {p n x r lx : Nat} (hp : p < 8) (en : ma p = nI n) (hn : n < 40)
    (ex : ix p = nI x) (hx : x < 8) (er : rx p = nI r) (hr : r < 2 ^ 31) (el : ma x = nI lx) (hl : lx ≤ 40)
    (h0 : lx ≤ r → post 0 (w, h, kd, ix, iy, nu, ma, rx, ry, tl, it, ri, li))
    (h1 : r < lx → (it (x * 40 + r) &&& 1) = 1 → post 1 (w, h, kd, ix, iy, nu, upd ma p (nI (n + 1)), upd rx p (nI (r + 1)), ry, tl, upd it (p * 40 + n) (it (x * 40 + r)), ri, li))
    (h2 : r < lx → ¬ (it (x * 40 + r) &&& 1) = 1 → post 1 (w, h, kd, ix, iy, nu, ma, upd rx p (nI (r + 1)), ry, tl, it, ri, li)) :
    wpX_stepOdd post (w, h, kd, ix, iy, nu, ma, rx, ry, tl, it, ri, li) (nI p) := by
  unfold wpX_stepOdd
  dsimp only
  refine xw_hasX hp ex hx er el hr hl (fun z => br_t rfl (h0 z)) (fun z => br_f (by decide) ?_)
  refine xw_takeX hp ex hx er (by omega) ?_
  dsimp only
  refine br_c (fun y => ?_) (fun y => h2 z y)
  refine xw_make hp en hn ?_
  dsimp only
  exact h1 z y

theorem xw_stepTurn {post : Int32 → SX → Prop} {p n x r lx y s ly : Nat} (hp : p < 8) (en : ma p = nI n) (hn : n < 40)
    (ex : ix p = nI x) (hx : x < 8) (er : rx p = nI r) (hr : r < 2 ^ 31) (el : ma x = nI lx) (hl : lx ≤ 40)
    (ey : iy p = nI y) (hy : y < 8) (es : ry p = nI s) (hs : s < 2 ^ 31) (em : ma y = nI ly) (hm : ly ≤ 40)
    (h0 : n % 2 = 0 → lx ≤ r → post 0 (w, h, kd, ix, iy, nu, ma, rx, ry, tl, it, ri, li))
    (h0' : n % 2 = 1 → ly ≤ s → post 0 (w, h, kd, ix, iy, nu, ma, rx, ry, tl, it, ri, li))
    (h1 : n % 2 = 0 → r < lx → post 1 (w, h, kd, ix, iy, nu, upd ma p (nI (n + 1)), upd rx p (nI (r + 1)), ry, tl, upd it (p * 40 + n) (it (x * 40 + r)), ri, li))
    (h1' : n % 2 = 1 → s < ly → post 1 (w, h, kd, ix, iy, nu, upd ma p (nI (n + 1)), rx, upd ry p (nI (s + 1)), tl, upd it (p * 40 + n) (it (y * 40 + s)), ri, li)) :
    wpX_stepTurn post (w, h, kd, ix, iy, nu, ma, rx, ry, tl, it, ri, li) (nI p) := by
  unfold wpX_stepTurn
  dsimp only
  rw [nI_clamp (show p < 2 ^ 31 by omega), en, kn_par (show n < 2 ^ 31 by omega)]
  refine ⟨kn_v8 hp, ?_⟩
  have hc : n % 2 = 0 ∨ n % 2 = 1 := by omega
  rcases hc with z | z
  · rw [z]
    refine br_t rfl ?_
    unfold wX_stepTurn_16
    refine br_f (by decide) ?_
    refine xw_hasX hp ex hx er el hr hl (fun q => ?_) (fun q => ?_)
    · unfold wX_stepTurn_34
      exact br_t rfl (h0 z q)
    · unfold wX_stepTurn_34
      refine br_f (by decide) (br_f (by decide) ?_)
      refine xw_takeX hp ex hx er (by omega) ?_
      dsimp only
      unfold wX_stepTurn_58
      exact xw_make hp en hn ⟨narrow_b1, h1 z q⟩
  · rw [z]
    refine br_f (by decide) ?_
    unfold wX_stepTurn_16
    refine br_t rfl ?_
    refine xw_hasY hp ey hy es em hs hm (fun q => ?_) (fun q => ?_)
    · unfold wX_stepTurn_34
      exact br_t rfl (h0' z q)
    · unfold wX_stepTurn_34
      refine br_f (by decide) (br_t rfl ?_)
      refine xw_takeY hp ey hy es (by omega) ?_
      dsimp only
      unfold wX_stepTurn_58
      exact xw_make hp en hn ⟨narrow_b1, h1' z q⟩

theorem xw_stepDelay {post : Int32 → SX → Prop} {p n x r lx : Nat} (hp : p < 8) (en : ma p = nI n) (hn : n < 40)
    (ex : ix p = nI x) (hx : x < 8) (er : rx p = nI r) (hr : r < 2 ^ 31) (el : ma x = nI lx) (hl : lx ≤ 40)
    (h0 : n ≠ 0 → lx ≤ r → post 0 (w, h, kd, ix, iy, nu, ma, rx, ry, tl, it, ri, li))
    (h1 : n = 0 → post 1 (w, h, kd, ix, iy, nu, upd ma p (nI (n + 1)), rx, ry, tl, upd it (p * 40 + n) (nu p), ri, li))
    (h2 : n ≠ 0 → r < lx → post 1 (w, h, kd, ix, iy, nu, upd ma p (nI (n + 1)), upd rx p (nI (r + 1)), ry, tl, upd it (p * 40 + n) (it (x * 40 + r)), ri, li)) :
    wpX_stepDelay post (w, h, kd, ix, iy, nu, ma, rx, ry, tl, it, ri, li) (nI p) := by
  unfold wpX_stepDelay
  dsimp only
  rw [nI_clamp (show p < 2 ^ 31 by omega), en]
  refine ⟨kn_v8 hp, pk_eq n 0 (fun z => ⟨kn_v8 hp, ?_⟩) (fun z => ?_) rfl rfl (by omega) (by omega)⟩
  · exact xw_make hp en hn ⟨narrow_b1, h1 z⟩
  · refine xw_hasX hp ex hx er el hr hl (fun q => br_t rfl (h0 z q)) (fun q => br_f (by decide) ?_)
    refine xw_takeX hp ex hx er (by omega) ?_
    dsimp only
    exact xw_make hp en hn ⟨narrow_b1, h2 z q⟩

theorem xw_stepSum {post : Int32 → SX → Prop} {p n x r lx : Nat} (hp : p < 8) (en : ma p = nI n) (hn : n < 40)
    (ex : ix p = nI x) (hx : x < 8) (er : rx p = nI r) (hr : r < 2 ^ 31) (el : ma x = nI lx) (hl : lx ≤ 40)
    (h0 : lx ≤ r → post 0 (w, h, kd, ix, iy, nu, ma, rx, ry, tl, it, ri, li))
    (h1 : r < lx → post 1 (w, h, kd, ix, iy, nu, upd ma p (nI (n + 1)), upd rx p (nI (r + 1)), ry, upd tl p (tl p + it (x * 40 + r)), upd it (p * 40 + n) (tl p + it (x * 40 + r)), ri, li)) :
    wpX_stepSum post (w, h, kd, ix, iy, nu, ma, rx, ry, tl, it, ri, li) (nI p) := by
  unfold wpX_stepSum
  dsimp only
  rw [nI_clamp (show p < 2 ^ 31 by omega)]
  refine xw_hasX hp ex hx er el hr hl (fun q => br_t rfl (h0 q)) (fun q => br_f (by decide) ⟨kn_v8 hp, ?_⟩)
  refine xw_takeX hp ex hx er (by omega) ?_
  dsimp only
  refine ⟨kn_v8 hp, nm_e ⟨kn_v8 hp, ?_⟩⟩
  rw [pk_us]
  exact xw_make hp en hn ⟨narrow_b1, h1 q⟩

theorem xw_stepPair {post : Int32 → SX → Prop} {p n x r lx y s ly k : Nat} (hp : p < 8) (en : ma p = nI n) (hn : n < 40)
    (ek : kd p = nI k) (hk : k ≤ 7)
    (ex : ix p = nI x) (hx : x < 8) (er : rx p = nI r) (hr : r < 2 ^ 31) (el : ma x = nI lx) (hl : lx ≤ 40)
    (ey : iy p = nI y) (hy : y < 8) (es : ry p = nI s) (hs : s < 2 ^ 31) (em : ma y = nI ly) (hm : ly ≤ 40)
    (h0 : ¬ (r < lx ∧ s < ly) → post 0 (w, h, kd, ix, iy, nu, ma, rx, ry, tl, it, ri, li))
    (h1 : r < lx → s < ly → k = 2 → post 1 (w, h, kd, ix, iy, nu, upd ma p (nI (n + 1)), upd rx p (nI (r + 1)), upd ry p (nI (s + 1)), tl, upd it (p * 40 + n) (it (x * 40 + r) + it (y * 40 + s)), ri, li))
    (h2 : r < lx → s < ly → k ≠ 2 → it (y * 40 + s) < it (x * 40 + r) → post 1 (w, h, kd, ix, iy, nu, upd ma p (nI (n + 1)), rx, upd ry p (nI (s + 1)), tl, upd it (p * 40 + n) (it (y * 40 + s)), ri, li))
    (h3 : r < lx → s < ly → k ≠ 2 → ¬ it (y * 40 + s) < it (x * 40 + r) → post 1 (w, h, kd, ix, iy, nu, upd ma p (nI (n + 1)), upd rx p (nI (r + 1)), ry, tl, upd it (p * 40 + n) (it (x * 40 + r)), ri, li)) :
    wpX_stepPair post (w, h, kd, ix, iy, nu, ma, rx, ry, tl, it, ri, li) (nI p) := by
  unfold wpX_stepPair
  dsimp only
  refine xw_hasX hp ex hx er el hr hl (fun q => br_t rfl ?_) (fun q => br_f (by decide) ?_)
  · unfold wX_stepPair_20 wX_stepPair_21
    exact br_t rfl (h0 (by omega))
  · refine xw_hasY hp ey hy es em hs hm (fun q' => br_t rfl ?_) (fun q' => br_f (by decide) ?_)
    · unfold wX_stepPair_20 wX_stepPair_21
      exact br_t rfl (h0 (by omega))
    · unfold wX_stepPair_21
      refine br_f (by decide) ⟨kn_v8 hp, ?_⟩
      rw [nI_clamp (show p < 2 ^ 31 by omega), ek]
      refine pk_eq k 2 (fun z => ?_) (fun z => ?_) rfl rfl (by omega) (by omega)
      · refine xw_takeX hp ex hx er (by omega) ?_
        dsimp only
        refine xw_takeY hp ey hy es (by omega) ?_
        dsimp only
        exact xw_make hp en hn ⟨narrow_b1, h1 q q' z⟩
      · rw [ex, er, ey, es, kn_ix, kn_ix, nI_clamp (show x * 40 + r < 2 ^ 31 by omega), nI_clamp (show y * 40 + s < 2 ^ 31 by omega)]
        refine ⟨kn_v8 hp, kn_v8 hp, vp_in_nI (by omega) (by decide), kn_v8 hp, kn_v8 hp, vp_in_nI (by omega) (by decide), br_c (fun a => ?_) (fun a => ?_)⟩
        · unfold wX_stepPair_111
          refine br_t rfl ?_
          refine xw_takeY hp ey hy es (by omega) ?_
          dsimp only
          unfold wX_stepPair_129
          exact xw_make hp en hn ⟨narrow_b1, h2 q q' z a⟩
        · unfold wX_stepPair_111
          refine br_f (by decide) ?_
          refine xw_takeX hp ex hx er (by omega) ?_
          dsimp only
          unfold wX_stepPair_129
          exact xw_make hp en hn ⟨narrow_b1, h3 q q' z a⟩
end
end
section
/-! X: a process at a point of its trajectory; one step -/
def kn_NB (kd ix iy : Nat → Int32) (K A B : Nat → Nat) : Prop := ∀ p, p < 8 → kd p = nI (K p) ∧ ix p = nI (A p) ∧ iy p = nI (B p)

def kn_PB (K A B : Nat → Nat) (g : Nat → Nat) (G : Nat → Nat → Int32) (c : Nat → Nat) (ma rx ry tl it : Nat → Int32) : Prop :=
  ∀ p, p < 8 → (∀ j, j < c p → kn_E K A B g G p j) ∧ ma p = nI (kn_T K A B G p (c p)).1 ∧ rx p = nI (kn_T K A B G p (c p)).2.1
    ∧ ry p = nI (kn_T K A B G p (c p)).2.2.1 ∧ tl p = (kn_T K A B G p (c p)).2.2.2
    ∧ ∀ i, i < (kn_T K A B G p (c p)).1 → it (p * 40 + i) = G p i

def kn_At (f f' : Nat → Int32) (p : Nat) (v : Int32) : Prop := f' p = v ∧ ∀ q, q ≠ p → f' q = f q
theorem kn_Au {f : Nat → Int32} {p : Nat} {v : Int32} : kn_At f (upd f p v) p v := ⟨pk_us, fun _ hq => pk_un hq⟩
theorem kn_As {f : Nat → Int32} {p : Nat} {v : Int32} (h : f p = v) : kn_At f f p v := ⟨h, fun _ _ => rfl⟩

section
variable {K A B : Nat → Nat} {N : Nat → Int32} {g : Nat → Nat} {G : Nat → Nat → Int32} {c : Nat → Nat}
variable {ma rx ry tl it ma' rx' ry' tl' it' : Nat → Int32}

theorem kn_PBg (hF : kn_Lfp K A B N g G) (hP : kn_PB K A B g G c ma rx ry tl it) : ∀ q, q < 8 → kn_L K A B G c q ≤ g q :=
  fun q hq => kn_snd hF hq (hP q hq).1

theorem kn_PB40 (hW : kn_W K A B) (hP : kn_PB K A B g G c ma rx ry tl it) : ∀ q, q < 8 → kn_L K A B G c q ≤ 40 :=
  fun q hq => kn_T40 hW hq (hP q hq).1

theorem kn_PBc (hW : kn_W K A B) (hF : kn_Lfp K A B N g G) (hP : kn_PB K A B g G c ma rx ry tl it) : ∀ q, q < 8 → c q ≤ 40 :=
  fun q hq => kn_j40 (hW q hq).1 (hF.1 _ (hW q hq).2.1) _ _ (hP q hq).1

theorem kn_PBs (hW : kn_W K A B) (hF : kn_Lfp K A B N g G) (hP : kn_PB K A B g G c ma rx ry tl it) {p : Nat} (hp : p < 8)
    (hE : kn_E K A B (kn_L K A B G c) G p (c p)) {n' r' y' : Nat} {t' : Int32}
    (enx : kn_nx (K p) (G (A p)) (G (B p)) (kn_T K A B G p (c p)) = (n', r', y', t'))
    (h1 : kn_At ma ma' p (nI n')) (h2 : kn_At rx rx' p (nI r')) (h3 : kn_At ry ry' p (nI y')) (h4 : kn_At tl tl' p t')
    (h5 : ∀ q i, q < 8 → i < (kn_T K A B G q (c q)).1 → it' (q * 40 + i) = it (q * 40 + i))
    (h6 : kn_M K A B G p (c p) = 1 → it' (p * 40 + (kn_T K A B G p (c p)).1) = kn_V K A B N G p (c p)) :
    kn_PB K A B g G (kn_u c p (c p + 1)) ma' rx' ry' tl' it' := by
  have hg := kn_PBg hF hP
  intro q hq
  by_cases e : q = p
  · subst e
    rw [kn_us, kn_T_s, enx]
    have hEg : ∀ j, j < c q + 1 → kn_E K A B g G q j := by
      intro j hj
      by_cases z : j = c q
      · subst z; exact kn_E_mono hW hq hg hE
      · exact (hP q hq).1 j (by omega)
    refine ⟨hEg, h1.1, h2.1, h3.1, h4.1, ?_⟩
    intro i hi
    have e1 : (kn_nx (K q) (G (A q)) (G (B q)) (kn_T K A B G q (c q))).1 = (kn_T K A B G q (c q)).1 + kn_M K A B G q (c q) := kn_T_n hW hq G (c q)
    rw [enx] at e1
    have e1' : n' = (kn_T K A B G q (c q)).1 + kn_M K A B G q (c q) := e1
    have hi2 : i < n' := hi
    by_cases z : i < (kn_T K A B G q (c q)).1
    · rw [h5 q i hq z]
      exact (hP q hq).2.2.2.2.2 i z
    · have hm : kn_M K A B G q (c q) = 1 := by
        have := kn_m01 (K q) (G (A q)) (kn_T K A B G q (c q))
        unfold kn_M at e1' ⊢
        omega
      have hi' : i = (kn_T K A B G q (c q)).1 := by omega
      rw [hi', h6 hm]
      exact (hF.2.2.1 q hq (c q) (fun j hj => hEg j (by omega)) hm).symm
  · rw [kn_un e, h1.2 q e, h2.2 q e, h3.2 q e, h4.2 q e]
    obtain ⟨a1, a2, a3, a4, a5, a6⟩ := hP q hq
    exact ⟨a1, a2, a3, a4, a5, fun i hi => by rw [h5 q i hq hi]; exact a6 i hi⟩

/-- the same for a step that makes an item, written out -/
theorem kn_PBm (hW : kn_W K A B) (hF : kn_Lfp K A B N g G) (hP : kn_PB K A B g G c ma rx ry tl it) {p : Nat} (hp : p < 8)
    (hE : kn_E K A B (kn_L K A B G c) G p (c p)) {v : Int32} {n' r' y' : Nat} {t' : Int32}
    (enx : kn_nx (K p) (G (A p)) (G (B p)) (kn_T K A B G p (c p)) = (n', r', y', t'))
    (h1 : kn_At ma ma' p (nI n')) (h2 : kn_At rx rx' p (nI r')) (h3 : kn_At ry ry' p (nI y')) (h4 : kn_At tl tl' p t')
    (h6 : v = kn_V K A B N G p (c p)) :
    kn_PB K A B g G (kn_u c p (c p + 1)) ma' rx' ry' tl' (upd it (p * 40 + (kn_T K A B G p (c p)).1) v) := by
  refine kn_PBs hW hF hP hp hE enx h1 h2 h3 h4 ?_ ?_
  · intro q i hq hi
    refine pk_un ?_
    have e1 := kn_T40 hW hq (hP q hq).1
    have e2 : (kn_T K A B G p (c p)).1 < 40 := hE.1
    intro z
    have : q = p := by omega
    subst this
    omega
  · intro _
    rw [pk_us, h6]

theorem kn_rd {k : Nat} (hk : k ≤ 7) (gx gy : Nat → Int32) (j : Nat) : (kn_tr k gx gy j).2.1 ≤ j ∧ (kn_tr k gx gy j).2.2.1 ≤ j := by
  induction j with
  | zero => exact ⟨Nat.le_refl _, Nat.le_refl _⟩
  | succ j ih =>
    rw [kn_tr_s]
    obtain ⟨i1, i2⟩ := ih
    generalize kn_tr k gx gy j = s at i1 i2
    rcases kn_c8 hk with rfl | rfl | rfl | rfl | rfl | rfl | rfl | rfl <;> simp only [kn_nx] <;> (try split) <;> (constructor <;> (try dsimp only) <;> omega)
end

section
variable {K A B : Nat → Nat} {g : Nat → Nat} {G : Nat → Nat → Int32} {c : Nat → Nat}
variable {w h : Int32} {kd ix iy nu ma rx ry tl it ri li : Nat → Int32}

theorem xw_step {post : Int32 → SX → Prop} (hW : kn_W K A B) (hN : kn_NB kd ix iy K A B) (hF : kn_Lfp K A B nu g G)
    (hP : kn_PB K A B g G c ma rx ry tl it) {p : Nat} (hp : p < 8)
    (h0 : ¬ kn_E K A B (kn_L K A B G c) G p (c p) → post 0 (w, h, kd, ix, iy, nu, ma, rx, ry, tl, it, ri, li))
    (h1 : kn_E K A B (kn_L K A B G c) G p (c p) → ∀ ma' rx' ry' tl' it', kn_PB K A B g G (kn_u c p (c p + 1)) ma' rx' ry' tl' it' →
      post 1 (w, h, kd, ix, iy, nu, ma', rx', ry', tl', it', ri, li)) :
    wpX_step post (w, h, kd, ix, iy, nu, ma, rx, ry, tl, it, ri, li) (nI p) := by
  obtain ⟨hEj, ema, erx, ery, etl, eit⟩ := hP p hp
  obtain ⟨ekd, eix, eiy⟩ := hN p hp
  obtain ⟨hK, hA, hB⟩ := hW p hp
  have n40 := kn_T40 hW hp hEj
  have ela : ma (A p) = nI (kn_L K A B G c (A p)) := (hP _ hA).2.1
  have elb : ma (B p) = nI (kn_L K A B G c (B p)) := (hP _ hB).2.1
  have la40 := kn_PB40 hW hP _ hA
  have lb40 := kn_PB40 hW hP _ hB
  have ita : ∀ i, i < kn_L K A B G c (A p) → it (A p * 40 + i) = G (A p) i := (hP _ hA).2.2.2.2.2
  have itb : ∀ i, i < kn_L K A B G c (B p) → it (B p * 40 + i) = G (B p) i := (hP _ hB).2.2.2.2.2
  have hc40 := kn_PBc hW hF hP p hp
  have hrd := kn_rd hK (G (A p)) (G (B p)) (c p)
  have hr : (kn_T K A B G p (c p)).2.1 < 2 ^ 31 := Nat.lt_of_le_of_lt hrd.1 (by omega)
  have hs : (kn_T K A B G p (c p)).2.2.1 < 2 ^ 31 := Nat.lt_of_le_of_lt hrd.2 (by omega)
  unfold wpX_step
  dsimp only
  rw [nI_clamp (show p < 2 ^ 31 by omega), ema, ekd]
  refine ⟨kn_v8 hp, nm_e (pk_lt _ 40 (fun hn => ⟨kn_v8 hp, nm_e ?_⟩) (fun hn => h0 (fun z => absurd z.1 (by omega))) rfl rfl (by omega) (by omega))⟩
  rcases kn_c8 hK with k | k | k | k | k | k | k | k
  · rw [k]
    refine br_f (by decide) (br_f (by decide) (br_t rfl ⟨kn_v8 hp, xw_make hp ema hn ⟨narrow_b1, ?_⟩⟩))
    have hE : kn_E K A B (kn_L K A B G c) G p (c p) := by unfold kn_E; rw [k]; exact ⟨hn, trivial⟩
    refine h1 hE _ _ _ _ _ (kn_PBm hW hF hP hp hE (by rw [k]; rfl) kn_Au (kn_As erx) (kn_As ery) (kn_As etl) ?_)
    unfold kn_V; rw [k]; rfl
  · rw [k]
    refine br_f (by decide) (br_f (by decide) (br_f (by decide) (br_t rfl ?_)))
    refine pk_le 5 _ (fun z => h0 ?_) (fun z => ⟨kn_v8 hp, xw_make hp ema hn (br_f (by decide) ?_)⟩) rfl rfl (by omega) (by omega)
    · intro e; unfold kn_E at e; rw [k] at e
      have e2 : (kn_T K A B G p (c p)).1 < 5 := e.2
      omega
    · have hE : kn_E K A B (kn_L K A B G c) G p (c p) := by unfold kn_E; rw [k]; exact ⟨hn, z⟩
      refine h1 hE _ _ _ _ _ (kn_PBm hW hF hP hp hE (by rw [k]; rfl) kn_Au (kn_As erx) (kn_As ery) (kn_As etl) ?_)
      unfold kn_V; rw [k]; rfl
  · rw [k]
    refine br_f (by decide) (br_f (by decide) (br_f (by decide) (br_f (by decide) (br_t rfl ?_))))
    unfold wX_step_109
    refine xw_stepPair (k := 2) hp ema hn (by rw [ekd, k]) (by omega) eix hA erx hr ela la40 eiy hB ery hs elb lb40 ?_ ?_ ?_ ?_
    · intro z
      refine ⟨narrow_b0, h0 ?_⟩
      intro e; unfold kn_E at e; rw [k] at e
      exact z e.2
    · intro za zb _
      have hE : kn_E K A B (kn_L K A B G c) G p (c p) := by unfold kn_E; rw [k]; exact ⟨hn, za, zb⟩
      refine ⟨narrow_b1, h1 hE _ _ _ _ _ (kn_PBm hW hF hP hp hE (by rw [k]; rfl) kn_Au kn_Au kn_Au (kn_As etl) ?_)⟩
      unfold kn_V; rw [k, ita _ za, itb _ zb]; rfl
    · intro _ _ z; exact absurd rfl z
    · intro _ _ z; exact absurd rfl z
  · rw [k]
    refine br_f (by decide) (br_f (by decide) (br_f (by decide) (br_f (by decide) (br_f (by decide) (br_t rfl ?_)))))
    refine xw_stepTurn hp ema hn eix hA erx hr ela la40 eiy hB ery hs elb lb40 ?_ ?_ ?_ ?_
    · intro z1 z2
      refine ⟨narrow_b0, h0 ?_⟩
      intro e; unfold kn_E at e; rw [k] at e
      have e2 := e.2.1 z1
      omega
    · intro z1 z2
      refine ⟨narrow_b0, h0 ?_⟩
      intro e; unfold kn_E at e; rw [k] at e
      have e2 := e.2.2 z1
      omega
    · intro z1 z2
      have hE : kn_E K A B (kn_L K A B G c) G p (c p) := by
        unfold kn_E; rw [k]; exact ⟨hn, fun _ => z2, fun z => absurd z (by omega)⟩
      refine ⟨narrow_b1, h1 hE _ _ _ _ _ (kn_PBm hW hF hP hp hE (by rw [k]; exact if_pos z1) kn_Au kn_Au (kn_As ery) (kn_As etl) ?_)⟩
      unfold kn_V; rw [k, ita _ z2]; exact (if_pos z1).symm
    · intro z1 z2
      have z3 : ¬ (kn_T K A B G p (c p)).1 % 2 = 0 := by omega
      have hE : kn_E K A B (kn_L K A B G c) G p (c p) := by
        unfold kn_E; rw [k]; exact ⟨hn, fun z => absurd z z3, fun _ => z2⟩
      refine ⟨narrow_b1, h1 hE _ _ _ _ _ (kn_PBm hW hF hP hp hE (by rw [k]; exact if_neg z3) kn_Au (kn_As erx) kn_Au (kn_As etl) ?_)⟩
      unfold kn_V; rw [k, itb _ z2]; exact (if_neg z3).symm
  · rw [k]
    refine br_f (by decide) (br_f (by decide) (br_f (by decide) (br_f (by decide) (br_f (by decide) (br_f (by decide) (br_t rfl ?_))))))
    refine xw_stepOdd hp ema hn eix hA erx hr ela la40 ?_ ?_ ?_
    · intro z1
      refine ⟨narrow_b0, h0 ?_⟩
      intro e; unfold kn_E at e; rw [k] at e
      have e2 : (kn_T K A B G p (c p)).2.1 < kn_L K A B G c (A p) := e.2
      omega
    · intro z1 z2
      rw [ita _ z1] at z2
      have hE : kn_E K A B (kn_L K A B G c) G p (c p) := by unfold kn_E; rw [k]; exact ⟨hn, z1⟩
      refine ⟨narrow_b1, h1 hE _ _ _ _ _ (kn_PBm hW hF hP hp hE (by rw [k]; exact if_pos z2) kn_Au kn_Au (kn_As ery) (kn_As etl) ?_)⟩
      unfold kn_V; rw [k, ita _ z1]; rfl
    · intro z1 z2
      rw [ita _ z1] at z2
      have hE : kn_E K A B (kn_L K A B G c) G p (c p) := by unfold kn_E; rw [k]; exact ⟨hn, z1⟩
      refine ⟨narrow_b1, h1 hE _ _ _ _ _ (kn_PBs hW hF hP hp hE (by rw [k]; exact if_neg z2) (kn_As ema) kn_Au (kn_As ery) (kn_As etl) (fun _ _ _ _ => rfl) ?_)⟩
      intro hm
      exfalso
      unfold kn_M kn_m at hm
      rw [if_pos ⟨k, z2⟩] at hm
      exact absurd hm (by decide)
  · rw [k]
    refine br_f (by decide) (br_f (by decide) (br_f (by decide) (br_f (by decide) (br_f (by decide) (br_f (by decide) (br_f (by decide) (br_t rfl ?_)))))))
    refine xw_stepDelay hp ema hn eix hA erx hr ela la40 ?_ ?_ ?_
    · intro z1 z2
      refine ⟨narrow_b0, h0 ?_⟩
      intro e; unfold kn_E at e; rw [k] at e
      have e2 : (kn_T K A B G p (c p)).2.1 < kn_L K A B G c (A p) := e.2 (by omega)
      omega
    · intro z1
      have hE : kn_E K A B (kn_L K A B G c) G p (c p) := by unfold kn_E; rw [k]; exact ⟨hn, fun z => absurd z (by omega)⟩
      refine ⟨narrow_b1, h1 hE _ _ _ _ _ (kn_PBm hW hF hP hp hE (by rw [k]; exact if_pos z1) kn_Au (kn_As erx) (kn_As ery) (kn_As etl) ?_)⟩
      unfold kn_V; rw [k]; exact (if_pos z1).symm
    · intro z1 z2
      have hE : kn_E K A B (kn_L K A B G c) G p (c p) := by unfold kn_E; rw [k]; exact ⟨hn, fun _ => z2⟩
      refine ⟨narrow_b1, h1 hE _ _ _ _ _ (kn_PBm hW hF hP hp hE (by rw [k]; exact if_neg z1) kn_Au kn_Au (kn_As ery) (kn_As etl) ?_)⟩
      unfold kn_V; rw [k, ita _ z2]; exact (if_neg z1).symm
  · rw [k]
    refine br_f (by decide) (br_f (by decide) (br_f (by decide) (br_f (by decide) (br_f (by decide) (br_f (by decide) (br_f (by decide) (br_f (by decide) (br_t rfl ?_))))))))
    unfold wX_step_109
    refine xw_stepPair (k := 6) hp ema hn (by rw [ekd, k]) (by omega) eix hA erx hr ela la40 eiy hB ery hs elb lb40 ?_ ?_ ?_ ?_
    · intro z
      refine ⟨narrow_b0, h0 ?_⟩
      intro e; unfold kn_E at e; rw [k] at e
      exact z e.2
    · intro _ _ z; exact absurd z (by decide)
    · intro za zb _ z
      rw [ita _ za, itb _ zb] at z
      have hE : kn_E K A B (kn_L K A B G c) G p (c p) := by unfold kn_E; rw [k]; exact ⟨hn, za, zb⟩
      refine ⟨narrow_b1, h1 hE _ _ _ _ _ (kn_PBm hW hF hP hp hE (by rw [k]; exact if_pos z) kn_Au (kn_As erx) kn_Au (kn_As etl) ?_)⟩
      unfold kn_V; rw [k, itb _ zb]; exact (if_pos z).symm
    · intro za zb _ z
      rw [ita _ za, itb _ zb] at z
      have hE : kn_E K A B (kn_L K A B G c) G p (c p) := by unfold kn_E; rw [k]; exact ⟨hn, za, zb⟩
      refine ⟨narrow_b1, h1 hE _ _ _ _ _ (kn_PBm hW hF hP hp hE (by rw [k]; exact if_neg z) kn_Au kn_Au (kn_As ery) (kn_As etl) ?_)⟩
      unfold kn_V; rw [k, ita _ za]; exact (if_neg z).symm
  · rw [k]
    refine br_f (by decide) (br_t (by decide) ?_)
    refine xw_stepSum hp ema hn eix hA erx hr ela la40 ?_ ?_
    · intro z1
      refine ⟨narrow_b0, h0 ?_⟩
      intro e; unfold kn_E at e; rw [k] at e
      have e2 : (kn_T K A B G p (c p)).2.1 < kn_L K A B G c (A p) := e.2
      omega
    · intro z1
      have hE : kn_E K A B (kn_L K A B G c) G p (c p) := by unfold kn_E; rw [k]; exact ⟨hn, z1⟩
      rw [etl, ita _ z1]
      refine ⟨narrow_b1, h1 hE _ _ _ _ _ (kn_PBm hW hF hP hp hE (by rw [k]; rfl) kn_Au kn_Au (kn_As ery) kn_Au ?_)⟩
      unfold kn_V; rw [k]; rfl
end
end
section
/-! X: the ring of woken processes, and run -/
theorem kn_ph : ∀ (n : Nat) (L : List Nat), L.Nodup → (∀ q, q ∈ L → q < n) → L.length ≤ n := by
  intro n
  induction n with
  | zero =>
    intro L _ h
    cases L with
    | nil => exact Nat.le_refl _
    | cons a t => exact absurd (h a List.mem_cons_self) (Nat.not_lt_zero _)
  | succ n ih =>
    intro L hd h
    by_cases hm : n ∈ L
    · have h1 := ih (L.erase n) (hd.erase n) (by
        intro q hq
        have h2 := (List.Nodup.mem_erase_iff hd).1 hq
        have h3 := h q h2.2
        have h4 := h2.1
        omega)
      have h5 := List.length_erase_of_mem hm
      omega
    · have h1 := ih L hd (by
        intro q hq
        have h2 : q ≠ n := fun e => hm (e ▸ hq)
        have h3 := h q hq
        omega)
      omega

def kn_Q (w h : Int32) (ri li : Nat → Int32) (L : List Nat) (hn : Nat) : Prop :=
  w = nI L.length ∧ h = nI hn ∧ hn < 8 ∧ L.Nodup ∧ (∀ q, q ∈ L → q < 8) ∧ (∀ q, q < 8 → li q = 0 ∨ li q = 1)
    ∧ (∀ q, q < 8 → (q ∈ L ↔ li q = 1)) ∧ ∀ i q, L[i]? = some q → ri ((hn + i) % 8) = nI q

theorem kn_and7 {n : Nat} (h : n < 2 ^ 31) : nI n &&& 7 = nI (n % 8) := pk_andN (by omega) 3 (by decide)

theorem kn_Q8 {w h : Int32} {ri li : Nat → Int32} {L : List Nat} {hn : Nat} (hQ : kn_Q w h ri li L hn) : L.length ≤ 8 := kn_ph 8 L hQ.2.2.2.1 hQ.2.2.2.2.1

theorem kn_Qput {w h : Int32} {ri li : Nat → Int32} {L : List Nat} {hn p : Nat} (hQ : kn_Q w h ri li L hn) (hp : p < 8) (z : li p = 0) :
    L.length < 8 ∧ kn_Q (w + 1) h (upd ri ((hn + L.length) % 8) (nI p)) (upd li p 1) (L ++ [p]) hn := by
  obtain ⟨ew, eh, hh, hnd, h8, h01, hmem, hri⟩ := hQ
  have hpL : p ∉ L := by
    intro y
    have e := (hmem p hp).1 y
    rw [z] at e
    exact absurd e (by decide)
  have hlen : (p :: L).length ≤ 8 := by
    refine kn_ph 8 (p :: L) (List.nodup_cons.2 ⟨hpL, hnd⟩) ?_
    intro q hq
    rcases List.mem_cons.1 hq with e | y
    · subst e; exact hp
    · exact h8 q y
  rw [List.length_cons] at hlen
  refine ⟨by omega, ?_, eh, hh, ?_, ?_, ?_, ?_, ?_⟩
  · rw [ew, nI_1, List.length_append]; rfl
  · rw [List.nodup_append]
    refine ⟨hnd, List.nodup_cons.2 ⟨List.not_mem_nil, List.nodup_nil⟩, ?_⟩
    intro a ha b hb e
    rw [List.mem_singleton] at hb
    subst hb; subst e
    exact hpL ha
  · intro q hq
    rcases List.mem_append.1 hq with y | y
    · exact h8 q y
    · rw [List.mem_singleton] at y; subst y; exact hp
  · intro q hq
    by_cases e : q = p
    · subst e; rw [pk_us]; exact Or.inr rfl
    · rw [pk_un e]; exact h01 q hq
  · intro q hq
    rw [List.mem_append, List.mem_singleton]
    by_cases e : q = p
    · subst e
      rw [pk_us]
      exact ⟨fun _ => rfl, fun _ => Or.inr rfl⟩
    · rw [pk_un e, ← hmem q hq]
      exact ⟨fun y => y.elim id (fun y => absurd y e), fun y => Or.inl y⟩
  · intro i q hi
    by_cases e : i < L.length
    · rw [List.getElem?_append_left e] at hi
      rw [pk_un (by omega)]
      exact hri i q hi
    · rw [List.getElem?_append_right (by omega)] at hi
      by_cases e2 : i = L.length
      · subst e2
        rw [Nat.sub_self] at hi
        have e3 : p = q := Option.some.inj hi
        rw [pk_us, e3]
      · have e3 : ([p] : List Nat)[i - L.length]? = none := List.getElem?_eq_none (by rw [List.length_singleton]; omega)
        rw [e3] at hi
        exact absurd hi (by simp)

section
variable {K A B : Nat → Nat} {g : Nat → Nat} {G : Nat → Nat → Int32} {c : Nat → Nat} {L : List Nat} {hn : Nat}
variable {w h : Int32} {kd ix iy nu ma rx ry tl it ri li : Nat → Int32}

theorem xw_wake {post : SX → Prop} {p : Nat} (hQ : kn_Q w h ri li L hn) (hp : p < 8)
    (h0 : ∀ w' ri' li' L', kn_Q w' h ri' li' L' hn → (∀ q, q ∈ L' ↔ q ∈ L ∨ q = p) → L'.length ≤ L.length + 1 →
      post (w', h, kd, ix, iy, nu, ma, rx, ry, tl, it, ri', li')) :
    wpX_wake post (w, h, kd, ix, iy, nu, ma, rx, ry, tl, it, ri, li) (nI p) := by
  unfold wpX_wake
  dsimp only
  rw [nI_clamp (show p < 2 ^ 31 by omega)]
  rcases hQ.2.2.2.2.2.1 p hp with z | z
  · obtain ⟨hl, hQ'⟩ := kn_Qput hQ hp z
    have e1 : (h + w) &&& 7 = nI ((hn + L.length) % 8) := by
      rw [hQ.2.1, hQ.1, nI_add, kn_and7 (by have := hQ.2.2.1; omega)]
    rw [e1, nI_clamp (show (hn + L.length) % 8 < 2 ^ 31 by omega)]
    refine ⟨kn_v8 hp, br_t z ⟨kn_v8 hp, nm_e ⟨kn_v8 (by omega), nm_e (nm_e ?_)⟩⟩⟩
    refine h0 _ _ _ (L ++ [p]) hQ' ?_ ?_
    · intro q; rw [List.mem_append, List.mem_singleton]
    · rw [List.length_append]; exact Nat.le_refl _
  · refine ⟨kn_v8 hp, br_f (by rw [z]; decide) (h0 _ _ _ L hQ ?_ (by omega))⟩
    intro q
    refine ⟨Or.inl, fun y => y.elim id ?_⟩
    intro e
    subst e
    exact (hQ.2.2.2.2.2.2.1 q hp).2 z

theorem xw_run68 {post : SX → Prop} {p : Nat} (hp : p < 8) (hW : kn_W K A B) (hN : kn_NB kd ix iy K A B) : ∀ d i, i + d = 8 → ∀ n, d < n →
    ∀ w ri li L, kn_Q w h ri li L hn →
    (∀ w' ri' li' L', kn_Q w' h ri' li' L' hn → (∀ q, q ∈ L → q ∈ L') → (∀ q, i ≤ q → q < 8 → (A q = p ∨ B q = p) → q ∈ L') → L'.length ≤ L.length + d →
      post (w', h, kd, ix, iy, nu, ma, rx, ry, tl, it, ri', li')) →
    wX_run_68 post (nI p) n (nI i) w h kd ix iy nu ma rx ry tl it ri li := by
  intro d
  induction d with
  | zero =>
    intro i hi n hn w ri li L hQ h0
    obtain ⟨n, rfl⟩ : ∃ m, n = m + 1 := ⟨n - 1, by omega⟩
    refine pk_le 8 i (fun z => h0 w ri li L hQ (fun _ y => y) (fun q h1 h2 => absurd h1 (by omega)) (by omega)) (fun z => absurd z (by omega))
  | succ d ih =>
    intro i hi n hn w ri li L hQ h0
    obtain ⟨n, rfl⟩ : ∃ m, n = m + 1 := ⟨n - 1, by omega⟩
    have hi8 : i < 8 := by omega
    obtain ⟨_, eix, eiy⟩ := hN i hi8
    obtain ⟨_, hA, hB⟩ := hW i hi8
    have wk : (A i = p ∨ B i = p) → wX_run_97 post (wX_run_68 post (nI p) n) (nI p) (nI i) w h kd ix iy nu ma rx ry tl it ri li := by
      intro hr
      unfold wX_run_97
      refine xw_wake hQ hi8 ?_
      intro w' ri' li' L' hQ' hm hl
      refine nm_r (nI_1 i) ?_
      refine ih (i + 1) (by omega) n (by omega) w' ri' li' L' hQ' ?_
      intro w2 ri2 li2 L2 hQ2 h1 h2 h3
      refine h0 w2 ri2 li2 L2 hQ2 (fun q hq => h1 q ((hm q).2 (Or.inl hq))) ?_ (by omega)
      intro q hq1 hq2 hq3
      by_cases e : q = i
      · exact h1 q ((hm q).2 (Or.inr e))
      · exact h2 q (by omega) hq2 hq3
    refine pk_le 8 i (fun z => absurd z (by omega)) (fun _ => ?_)
    rw [nI_clamp (show i < 2 ^ 31 by omega), eix, eiy]
    refine ⟨kn_v8 hi8, pk_eq (A i) p (fun z => wk (Or.inl z)) (fun z => ⟨kn_v8 hi8, pk_eq (B i) p (fun y => wk (Or.inr y)) (fun y => nm_r (nI_1 i) ?_)⟩)⟩
    refine ih (i + 1) (by omega) n (by omega) w ri li L hQ ?_
    intro w2 ri2 li2 L2 hQ2 h1 h2 h3
    refine h0 w2 ri2 li2 L2 hQ2 h1 ?_ (by omega)
    intro q hq1 hq2 hq3
    by_cases e : q = i
    · subst e
      exact absurd hq3 (fun x => x.elim z y)
    · exact h2 q (by omega) hq2 hq3

theorem kn_E_eq {l l' : Nat → Nat} {q j : Nat} (h1 : l (A q) = l' (A q)) (h2 : l (B q) = l' (B q)) (h : kn_E K A B l G q j) : kn_E K A B l' G q j := by
  unfold kn_E at h ⊢
  rw [← h1, ← h2]
  exact h

theorem xw_run54 {post : SX → Prop} {c' : Nat → Nat} {p : Nat} (hW : kn_W K A B) (hN : kn_NB kd ix iy K A B)
    (hP : kn_PB K A B g G c' ma rx ry tl it) (hQ : kn_Q w h ri li L hn) (hp : p < 8)
    (hc : ∀ q, q ≠ p → c' q = c q) (hcp : c p ≤ c' p)
    (hB : ∀ q, q < 8 → q ≠ p → q ∉ L → ¬ kn_E K A B (kn_L K A B G c) G q (c q)) (hBp : p ∉ L → ¬ kn_E K A B (kn_L K A B G c') G p (c' p))
    (h0 : ∀ w' ri' li' L', kn_Q w' h ri' li' L' hn → (∀ q, q < 8 → q ∉ L' → ¬ kn_E K A B (kn_L K A B G c') G q (c' q)) →
      L'.length + 8 * kn_s8 (kn_L K A B G c) ≤ L.length + 8 * kn_s8 (kn_L K A B G c') →
      post (w', h, kd, ix, iy, nu, ma, rx, ry, tl, it, ri', li')) :
    wX_run_54 post (nI p) (nI (kn_L K A B G c p)) w h kd ix iy nu ma rx ry tl it ri li := by
  have h40 : kn_L K A B G c' p ≤ 40 := kn_PB40 hW hP p hp
  have hmn : kn_L K A B G c p ≤ kn_L K A B G c' p := kn_T_mono hW hp G hcp
  have hLq : ∀ q, q ≠ p → kn_L K A B G c' q = kn_L K A B G c q := by
    intro q hq
    unfold kn_L
    rw [hc q hq]
  unfold wX_run_54
  rw [nI_clamp (show p < 2 ^ 31 by omega), (hP p hp).2.1]
  refine ⟨kn_v8 hp, pk_eq (kn_L K A B G c' p) (kn_L K A B G c p) (fun z => ?_) (fun z => ?_)⟩
  · have eL : kn_L K A B G c' = kn_L K A B G c := by
      funext q
      by_cases e : q = p
      · subst e; exact z
      · exact hLq q e
    refine h0 w ri li L hQ ?_ (by rw [eL]; omega)
    intro q hq hqL
    by_cases e : q = p
    · subst e; exact hBp hqL
    · rw [eL, hc q e]; exact hB q hq e hqL
  · refine ⟨9, ?_⟩
    refine xw_run68 hp hW hN 8 0 rfl 9 (by omega) w ri li L hQ ?_
    intro w' ri' li' L' hQ' h1 h2 h3
    have hs : kn_s8 (kn_L K A B G c) + 1 ≤ kn_s8 (kn_L K A B G c') := by
      refine kn_s8_lt hp ?_ (by omega)
      intro q hq
      by_cases e : q = p
      · subst e; exact hmn
      · rw [hLq q e]; exact Nat.le_refl _
    refine h0 w' ri' li' L' hQ' ?_ (by omega)
    intro q hq hqL
    by_cases e : q = p
    · subst e
      exact hBp (fun y => hqL (h1 q y))
    · have ha : A q ≠ p := fun y => hqL (h2 q (by omega) hq (Or.inl y))
      have hb : B q ≠ p := fun y => hqL (h2 q (by omega) hq (Or.inr y))
      rw [hc q e]
      intro y
      exact hB q hq e (fun y => hqL (h1 q y)) (kn_E_eq (hLq _ ha) (hLq _ hb) y)

theorem xw_run13 {post : SX → Prop} {p : Nat} {most x3 : Int32} (hW : kn_W K A B) (hN : kn_NB kd ix iy K A B) (hF : kn_Lfp K A B nu g G) (hp : p < 8)
    (H : ∀ c' ma' rx' ry' tl' it' x4, kn_PB K A B g G c' ma' rx' ry' tl' it' → (∀ q, q ≠ p → c' q = c q) → c p ≤ c' p →
      ((x4 = 0 ∧ ¬ kn_E K A B (kn_L K A B G c') G p (c' p)) ∨ (x4 = 1 ∧ most ≠ 120)) →
      wX_run_44 post (nI p) x3 x4 w h kd ix iy nu ma' rx' ry' tl' it' ri li) :
    ∀ n i, 121 < n + i → i ≤ 120 → ∀ c' ma rx ry tl it, kn_PB K A B g G c' ma rx ry tl it → (∀ q, q ≠ p → c' q = c q) → c' p = c p + i →
      wX_run_13 post (nI p) most x3 n 1 (nI i) w h kd ix iy nu ma rx ry tl it ri li := by
  intro n
  induction n with
  | zero => intro i h1 h2; exact absurd h1 (by omega)
  | succ n ih =>
    intro i h1 h2 c' ma rx ry tl it hP hq hc
    have hc40 := kn_PBc hW hF hP p hp
    refine br_c (fun z => H c' ma rx ry tl it 1 hP hq (by omega) (Or.inr ⟨rfl, ?_⟩)) (fun z => pk_le 120 i (fun z2 => absurd z2 (by omega)) (fun z2 => br_f (by decide) ?_))
    · intro e
      rw [e] at z
      have e2 := (nI_leI (a := 120) (b := i) (by omega) (by omega)).1 z
      omega
    · refine xw_step hW hN hF hP hp (fun hb => ?_) (fun he ma' rx' ry' tl' it' hP' => ?_)
      · refine nm_r (nI_1 i) ?_
        obtain ⟨n, rfl⟩ : ∃ m, n = m + 1 := ⟨n - 1, by omega⟩
        have hH := H c' ma rx ry tl it 0 hP hq (by omega) (Or.inl ⟨rfl, hb⟩)
        exact br_c (fun _ => hH) (fun _ => br_c (fun _ => hH) (fun _ => br_t rfl hH))
      · refine nm_r (nI_1 i) ?_
        refine ih (i + 1) (by omega) (by omega) _ ma' rx' ry' tl' it' hP' ?_ ?_
        · intro q e; rw [kn_un e]; exact hq q e
        · rw [kn_us]; omega

theorem xw_run {post : SX → Prop} {p : Nat} (hW : kn_W K A B) (hN : kn_NB kd ix iy K A B) (hF : kn_Lfp K A B nu g G)
    (hP : kn_PB K A B g G c ma rx ry tl it) (hQ : kn_Q w h ri li L hn) (hp : p < 8)
    (hB : ∀ q, q < 8 → q ≠ p → q ∉ L → ¬ kn_E K A B (kn_L K A B G c) G q (c q)) (most : Int32)
    (h0 : ∀ w' ma' rx' ry' tl' it' ri' li' c' L', kn_PB K A B g G c' ma' rx' ry' tl' it' → kn_Q w' h ri' li' L' hn →
      (∀ q, q < 8 → q ∉ L' → ¬ kn_E K A B (kn_L K A B G c') G q (c' q)) →
      (most = 120 → L'.length + 8 * kn_s8 (kn_L K A B G c) ≤ L.length + 8 * kn_s8 (kn_L K A B G c')) →
      post (w', h, kd, ix, iy, nu, ma', rx', ry', tl', it', ri', li')) :
    wpX_run post (w, h, kd, ix, iy, nu, ma, rx, ry, tl, it, ri, li) (nI p) most := by
  unfold wpX_run
  dsimp only
  rw [nI_clamp (show p < 2 ^ 31 by omega)]
  refine ⟨kn_v8 hp, nm_r (hP p hp).2.1 ⟨122, ?_⟩⟩
  refine xw_run13 (c := c) hW hN hF hp ?_ 122 0 (by omega) (by omega) c ma rx ry tl it hP (fun _ _ => rfl) rfl
  intro c' ma' rx' ry' tl' it' x4 hP' hq hcp hx
  unfold wX_run_44
  rcases hx with ⟨rfl, hb⟩ | ⟨rfl, hb⟩
  · refine br_t rfl ?_
    refine xw_run54 (c := c) hW hN hP' hQ hp hq hcp hB (fun _ => hb) ?_
    intro w2 ri2 li2 L2 hQ2 h1 h2
    exact h0 w2 ma' rx' ry' tl' it' ri2 li2 c' L2 hP' hQ2 h1 (fun _ => h2)
  · refine br_f (by decide) ?_
    refine xw_wake hQ hp ?_
    intro w1 ri1 li1 L1 hQ1 hm hl
    refine xw_run54 (c := c) hW hN hP' hQ1 hp hq hcp ?_ ?_ ?_
    · intro q hq8 hqp hqL
      exact hB q hq8 hqp (fun y => hqL ((hm q).2 (Or.inl y)))
    · intro hpL
      exact absurd ((hm p).2 (Or.inr rfl)) hpL
    · intro w2 ri2 li2 L2 hQ2 h1 h2
      exact h0 w2 ma' rx' ry' tl' it' ri2 li2 c' L2 hP' hQ2 h1 (fun e => absurd e hb)
end
end
section
/-! X: settle and restart -/
section
variable {K A B : Nat → Nat} {g : Nat → Nat} {G : Nat → Nat → Int32}
variable {kd ix iy nu : Nat → Int32}

theorem kn_Qpop {w h : Int32} {ri li : Nat → Int32} {L : List Nat} {hn q : Nat} (hQ : kn_Q w h ri li (q :: L) hn) :
    q < 8 ∧ ri hn = nI q ∧ kn_Q (w - 1) ((h + 1) &&& 7) ri (upd li q 0) L ((hn + 1) % 8) := by
  obtain ⟨ew, eh, hh, hnd, h8, h01, hmem, hri⟩ := hQ
  have hq8 : q < 8 := h8 q List.mem_cons_self
  obtain ⟨hqL, hndL⟩ := List.nodup_cons.1 hnd
  refine ⟨hq8, ?_, ?_, ?_, by omega, hndL, fun x hx => h8 x (List.mem_cons_of_mem _ hx), ?_, ?_, ?_⟩
  · have e := hri 0 q rfl
    rw [show (hn + 0) % 8 = hn by omega] at e
    exact e
  · rw [ew, List.length_cons, nI_pred]
  · rw [eh, nI_1, kn_and7 (by omega)]
  · intro x hx
    by_cases e : x = q
    · subst e; rw [pk_us]; exact Or.inl rfl
    · rw [pk_un e]; exact h01 x hx
  · intro x hx
    by_cases e : x = q
    · subst e
      rw [pk_us]
      exact ⟨fun y => absurd y hqL, fun y => absurd y (by decide)⟩
    · rw [pk_un e, ← hmem x hx, List.mem_cons]
      exact ⟨Or.inr, fun y => y.elim (fun y => absurd y e) id⟩
  · intro i x hi
    have e := hri (i + 1) x hi
    rw [show ((hn + 1) % 8 + i) % 8 = (hn + (i + 1)) % 8 by omega]
    exact e

theorem xw_settle2 {post : SX → Prop} (hW : kn_W K A B) (hN : kn_NB kd ix iy K A B) (hF : kn_Lfp K A B nu g G)
    (h0 : ∀ w h ma rx ry tl it ri li c hn, kn_PB K A B g G c ma rx ry tl it → kn_Q w h ri li [] hn → (∀ q, q < 8 → kn_L K A B G c q = g q) →
      (∀ q, q < 8 → ¬ kn_E K A B (kn_L K A B G c) G q (c q)) →
      post (w, h, kd, ix, iy, nu, ma, rx, ry, tl, it, ri, li)) :
    ∀ n i, 2568 < n + i → ∀ w h ma rx ry tl it ri li c L hn, kn_PB K A B g G c ma rx ry tl it → kn_Q w h ri li L hn →
      (∀ q, q < 8 → q ∉ L → ¬ kn_E K A B (kn_L K A B G c) G q (c q)) → L.length + i ≤ 8 + 8 * kn_s8 (kn_L K A B G c) →
      wX_settle_2 post n (nI i) w h kd ix iy nu ma rx ry tl it ri li := by
  intro n
  induction n with
  | zero =>
    intro i h1 w h ma rx ry tl it ri li c L hn hP hQ hB hm
    have h2 : kn_s8 (kn_L K A B G c) ≤ 8 * 40 := kn_s8_le (kn_PB40 hW hP)
    exact absurd h1 (by omega)
  | succ n ih =>
    intro i h1 w h ma rx ry tl it ri li c L hn hP hQ hB hm
    have h2 : kn_s8 (kn_L K A B G c) ≤ 8 * 40 := kn_s8_le (kn_PB40 hW hP)
    have h8 := kn_Q8 hQ
    refine pk_le 4000 i (fun z => absurd z (by omega)) (fun _ => pk_le L.length 0 (fun z => ?_) (fun z => ?_) hQ.1)
    · have e : L = [] := List.eq_nil_of_length_eq_zero (by omega)
      subst e
      refine h0 w h ma rx ry tl it ri li c hn hP hQ ?_ (fun q hq => hB q hq List.not_mem_nil)
      exact kn_full hW hF (fun p hp => (hP p hp).1) (fun p hp => hB p hp List.not_mem_nil)
    · cases L with
      | nil => exact absurd z (by simp)
      | cons q L =>
        obtain ⟨hq8, er, hQ'⟩ := kn_Qpop hQ
        have eh := hQ.2.1
        have hn8 := hQ.2.2.1
        refine ⟨by rw [eh]; exact kn_v8 hn8, nm_r (e' := nI q) (by rw [eh, nI_clamp (by omega)]; exact er) (nm_e (nm_e ⟨kn_v8 hq8, ?_⟩))⟩
        rw [nI_clamp (show q < 2 ^ 31 by omega), kn_bn0]
        refine nm_e ?_
        refine xw_run (c := c) hW hN hF hP hQ' hq8 ?_ 120 ?_
        · intro x hx hxq hxL
          exact hB x hx (fun y => (List.mem_cons.1 y).elim hxq hxL)
        · intro w' ma' rx' ry' tl' it' ri' li' c' L' hP' hQ2 hB' hm'
          refine nm_r (nI_1 i) ?_
          have hm2 := hm' rfl
          rw [List.length_cons] at hm
          exact ih (i + 1) (by omega) w' _ ma' rx' ry' tl' it' ri' li' c' L' _ hP' hQ2 hB' (by omega)

theorem xw_settle {post : SX → Prop} {w h : Int32} {ma rx ry tl it ri li : Nat → Int32} {c : Nat → Nat} {L : List Nat} {hn : Nat}
    (hW : kn_W K A B) (hN : kn_NB kd ix iy K A B) (hF : kn_Lfp K A B nu g G)
    (hP : kn_PB K A B g G c ma rx ry tl it) (hQ : kn_Q w h ri li L hn) (hB : ∀ q, q < 8 → q ∉ L → ¬ kn_E K A B (kn_L K A B G c) G q (c q))
    (h0 : ∀ w h ma rx ry tl it ri li c hn, kn_PB K A B g G c ma rx ry tl it → kn_Q w h ri li [] hn → (∀ q, q < 8 → kn_L K A B G c q = g q) →
      (∀ q, q < 8 → ¬ kn_E K A B (kn_L K A B G c) G q (c q)) →
      post (w, h, kd, ix, iy, nu, ma, rx, ry, tl, it, ri, li)) :
    wpX_settle post (w, h, kd, ix, iy, nu, ma, rx, ry, tl, it, ri, li) := by
  have h8 := kn_Q8 hQ
  exact ⟨2569, xw_settle2 hW hN hF h0 2569 0 (by omega) w h ma rx ry tl it ri li c L hn hP hQ hB (by omega)⟩

theorem xw_restart61 {post : SX → Prop} {h : Int32} {ma rx ry tl it : Nat → Int32} {hn : Nat} : ∀ d i, i + d = 8 → ∀ n, d < n → ∀ w ri li L, kn_Q w h ri li L hn → (∀ q, q < i → q ∈ L) →
    (∀ w' ri' li' L', kn_Q w' h ri' li' L' hn → (∀ q, q < 8 → q ∈ L') → post (w', h, kd, ix, iy, nu, ma, rx, ry, tl, it, ri', li')) →
    wX_restart_61 post n (nI i) w h kd ix iy nu ma rx ry tl it ri li := by
  intro d
  induction d with
  | zero =>
    intro i hi n hn w ri li L hQ hm h0
    obtain ⟨n, rfl⟩ : ∃ m, n = m + 1 := ⟨n - 1, by omega⟩
    exact pk_le 8 i (fun z => h0 w ri li L hQ (fun q hq => hm q (by omega))) (fun z => absurd z (by omega))
  | succ d ih =>
    intro i hi n hn w ri li L hQ hm h0
    obtain ⟨n, rfl⟩ : ∃ m, n = m + 1 := ⟨n - 1, by omega⟩
    refine pk_le 8 i (fun z => absurd z (by omega)) (fun _ => ?_)
    refine xw_wake hQ (show i < 8 by omega) ?_
    intro w' ri' li' L' hQ' hm' hl
    refine nm_r (nI_1 i) ?_
    refine ih (i + 1) (by omega) n (by omega) w' ri' li' L' hQ' ?_ h0
    intro q hq
    by_cases e : q = i
    · exact (hm' q).2 (Or.inr e)
    · exact (hm' q).2 (Or.inl (hm q (by omega)))

theorem xw_restart12 {post : SX → Prop} {it ri : Nat → Int32}
    (h0 : ∀ ma rx ry tl li, (∀ q, q < 8 → ma q = 0 ∧ rx q = 0 ∧ ry q = 0 ∧ tl q = 0 ∧ li q = 0) →
      ∃ n, wX_restart_61 post n 0 0 0 kd ix iy nu ma rx ry tl it ri li) :
    ∀ d i, i + d = 8 → ∀ n, d < n → ∀ ma rx ry tl li, (∀ q, q < i → ma q = 0 ∧ rx q = 0 ∧ ry q = 0 ∧ tl q = 0 ∧ li q = 0) →
    wX_restart_12 post 0 0 n (nI i) kd ix iy nu ma rx ry tl it ri li := by
  intro d
  induction d with
  | zero =>
    intro i hi n hn ma rx ry tl li hz
    obtain ⟨n, rfl⟩ : ∃ m, n = m + 1 := ⟨n - 1, by omega⟩
    exact pk_le 8 i (fun z => h0 ma rx ry tl li (fun q hq => hz q (by omega))) (fun z => absurd z (by omega))
  | succ d ih =>
    intro i hi n hn ma rx ry tl li hz
    obtain ⟨n, rfl⟩ : ∃ m, n = m + 1 := ⟨n - 1, by omega⟩
    have hi8 : i < 8 := by omega
    refine pk_le 8 i (fun z => absurd z (by omega)) (fun _ => ?_)
    rw [nI_clamp (show i < 2 ^ 31 by omega), kn_bn0]
    refine ⟨kn_v8 hi8, nm_e ⟨kn_v8 hi8, nm_e ⟨kn_v8 hi8, nm_e ⟨kn_v8 hi8, nm_e ⟨kn_v8 hi8, nm_e (nm_r (nI_1 i) ?_)⟩⟩⟩⟩⟩
    refine ih (i + 1) (by omega) n (by omega) _ _ _ _ _ ?_
    intro q hq
    by_cases e : q = i
    · subst e
      rw [pk_us, pk_us, pk_us, pk_us, pk_us]
      exact ⟨rfl, rfl, rfl, rfl, rfl⟩
    · rw [pk_un e, pk_un e, pk_un e, pk_un e, pk_un e]
      exact hz q (by omega)

theorem kn_Q0 {ri li : Nat → Int32} (hz : ∀ q, q < 8 → li q = 0) : kn_Q 0 0 ri li [] 0 := by
  refine ⟨rfl, rfl, by omega, List.nodup_nil, fun q hq => absurd hq List.not_mem_nil, fun q hq => Or.inl (hz q hq), ?_, ?_⟩
  · intro q hq
    rw [hz q hq]
    exact ⟨fun y => absurd y List.not_mem_nil, fun y => absurd y (by decide)⟩
  · intro i q hi
    exact absurd hi (by simp)

/-- a restart: every process at its start, and all of them in the ring -/
theorem xw_restart {post : SX → Prop} {w h : Int32} {ma rx ry tl it ri li : Nat → Int32}
    (h0 : ∀ w ma rx ry tl ri li L, (∀ q, q < 8 → ma q = 0 ∧ rx q = 0 ∧ ry q = 0 ∧ tl q = 0) → kn_Q w 0 ri li L 0 → (∀ q, q < 8 → q ∈ L) →
      post (w, 0, kd, ix, iy, nu, ma, rx, ry, tl, it, ri, li)) :
    wpX_restart post (w, h, kd, ix, iy, nu, ma, rx, ry, tl, it, ri, li) := by
  refine ⟨9, xw_restart12 ?_ 8 0 rfl 9 (by omega) ma rx ry tl li (fun q hq => absurd hq (by omega))⟩
  intro ma rx ry tl li hz
  refine ⟨9, xw_restart61 8 0 rfl 9 (by omega) 0 ri li [] (kn_Q0 (fun q hq => (hz q hq).2.2.2.2)) (fun q hq => absurd hq (by omega)) ?_⟩
  intro w' ri' li' L' hQ hm
  exact h0 w' ma rx ry tl ri' li' L' (fun q hq => ⟨(hz q hq).1, (hz q hq).2.1, (hz q hq).2.2.1, (hz q hq).2.2.2.1⟩) hQ hm

theorem kn_PB0 {ma rx ry tl it : Nat → Int32} (hz : ∀ q, q < 8 → ma q = 0 ∧ rx q = 0 ∧ ry q = 0 ∧ tl q = 0) :
    kn_PB K A B g G (fun _ => 0) ma rx ry tl it := by
  intro p hp
  obtain ⟨h1, h2, h3, h4⟩ := hz p hp
  exact ⟨fun j hj => absurd hj (Nat.not_lt_zero _), h1, h2, h3, h4, fun i hi => absurd hi (Nat.not_lt_zero _)⟩
end
end
section
/-! Y: one stream worked out from the others -/
def kn_CI (G : Nat → Nat → Int32) (l : Nat → Nat) (it : Nat → Int32) : Prop := ∀ q, q < 8 → ∀ i, i < l q → it (q * 40 + i) = G q i

def kn_YC (K A B : Nat → Nat) (g : Nat → Nat) (G : Nat → Nat → Int32) (l : Nat → Nat) (kd ix iy nu le : Nat → Int32) : Prop :=
  kn_W K A B ∧ kn_NB kd ix iy K A B ∧ kn_Lfp K A B nu g G ∧ (∀ q, q < 8 → l q ≤ g q) ∧ (∀ q, q < 8 → le q = nI (l q))

/-- the stream of p worked out as far as point j of its trajectory -/
def kn_SI (K A B : Nat → Nat) (G : Nat → Nat → Int32) (l : Nat → Nat) (p j : Nat) (it : Nat → Int32) : Prop :=
  (∀ i, i < j → kn_E K A B l G p i) ∧ kn_CI G l it ∧ ∀ i, i < (kn_T K A B G p j).1 → it (p * 40 + i) = G p i

section
variable {K A B : Nat → Nat} {g : Nat → Nat} {G : Nat → Nat → Int32} {l : Nat → Nat}
variable {fk : Int32} {kd ix iy nu it le : Nat → Int32}

theorem kn_YC40 (hY : kn_YC K A B g G l kd ix iy nu le) {q : Nat} (hq : q < 8) : l q ≤ 40 :=
  Nat.le_trans (hY.2.2.2.1 q hq) (hY.2.2.1.1 q hq)

theorem kn_SI0 (p : Nat) (hc : kn_CI G l it) : kn_SI K A B G l p 0 it :=
  ⟨fun _ hi => absurd hi (Nat.not_lt_zero _), hc, fun _ hi => absurd hi (Nat.not_lt_zero _)⟩

theorem kn_SIE {p j : Nat} (hs : kn_SI K A B G l p j it) (hE : kn_E K A B l G p j) : ∀ i, i < j + 1 → kn_E K A B l G p i := by
  intro i hi
  by_cases e : i = j
  · subst e; exact hE
  · exact hs.1 i (by omega)

/-- a right value written into p's stream keeps every stream -/
theorem kn_CIu (hY : kn_YC K A B g G l kd ix iy nu le) {p n : Nat} (hn : n < 40) {v : Int32} (hv : v = G p n) (hc : kn_CI G l it) :
    kn_CI G l (upd it (p * 40 + n) v) := by
  intro q hq i hi
  have h40 := kn_YC40 hY hq
  by_cases e : q * 40 + i = p * 40 + n
  · have e1 : q = p := by omega
    have e2 : i = n := by omega
    rw [e, pk_us, hv, e1, e2]
  · rw [pk_un e]; exact hc q hq i hi

theorem kn_YV (hY : kn_YC K A B g G l kd ix iy nu le) {p j : Nat} (hp : p < 8) (h : ∀ i, i < j + 1 → kn_E K A B l G p i) (hm : kn_M K A B G p j = 1) :
    G p (kn_T K A B G p j).1 = kn_V K A B nu G p j :=
  hY.2.2.1.2.2.1 p hp j (fun i hi => kn_E_mono hY.1 hp hY.2.2.2.1 (h i (by omega))) hm

theorem kn_SIm (hY : kn_YC K A B g G l kd ix iy nu le) {p j n : Nat} (hp : p < 8) (hs : kn_SI K A B G l p j it) (hE : kn_E K A B l G p j)
    (hm : kn_M K A B G p j = 1) (en : (kn_T K A B G p j).1 = n) {v : Int32} (hv : v = kn_V K A B nu G p j) :
    kn_SI K A B G l p (j + 1) (upd it (p * 40 + n) v) := by
  have hE1 := kn_SIE hs hE
  have hG := kn_YV hY hp hE1 hm
  have hn : n < 40 := by rw [← en]; exact hE.1
  rw [en] at hG
  refine ⟨hE1, kn_CIu hY hn (hv.trans hG.symm) hs.2.1, ?_⟩
  intro i hi
  rw [kn_T_n hY.1 hp, hm, en] at hi
  by_cases e : i = n
  · subst e; rw [pk_us, hv, hG]
  · rw [pk_un (by omega)]; exact hs.2.2 i (by omega)

theorem kn_SIn (hY : kn_YC K A B g G l kd ix iy nu le) {p j : Nat} (hp : p < 8) (hs : kn_SI K A B G l p j it) (hE : kn_E K A B l G p j)
    (hm : kn_M K A B G p j = 0) : kn_SI K A B G l p (j + 1) it := by
  refine ⟨kn_SIE hs hE, hs.2.1, ?_⟩
  intro i hi
  rw [kn_T_n hY.1 hp, hm] at hi
  exact hs.2.2 i hi

theorem kn_M1 {p : Nat} (h : K p ≠ 4) (j : Nat) : kn_M K A B G p j = 1 := kn_m_ne4 h _ _
theorem kn_Tn (hW : kn_W K A B) {p : Nat} (hp : p < 8) (h : K p ≠ 4) (j : Nat) : (kn_T K A B G p j).1 = j := kn_tr_n (hW p hp).1 h _ _ j

theorem yw_put {post : Int32 → SY → Prop} {p n : Nat} {v : Int32} (hp : p < 8) (hn : n < 40)
    (h0 : post (nI (n + 1)) (fk, kd, ix, iy, nu, upd it (p * 40 + n) v, le)) :
    wpY_put post (fk, kd, ix, iy, nu, it, le) (nI p) (nI n) v := by
  unfold wpY_put
  dsimp only
  rw [kn_ix, nI_clamp (show p * 40 + n < 2 ^ 31 by omega), nI_1 n]
  exact pk_eq n 40 (fun z => absurd z (by omega)) (fun _ => ⟨vp_in_nI (by omega) (by decide), nm_e h0⟩)

/-! COUNT and LIST -/
theorem yw_start {post : Int32 → SY → Prop} {p : Nat} (hY : kn_YC K A B g G l kd ix iy nu le) (hp : p < 8) (hk : K p = 0 ∨ K p = 1)
    (h0 : ∀ it' j, kn_SI K A B G l p j it' → ¬ kn_E K A B l G p j → post (nI (kn_T K A B G p j).1) (fk, kd, ix, iy, nu, it', le)) :
    ∀ n i, 40 < n + i → ∀ it, kn_SI K A B G l p i it → wY_start_4 post (nI p) n (nI i) (nI i) fk kd ix iy nu it le := by
  have h4 : K p ≠ 4 := by omega
  have ekd := (hY.2.1 p hp).1
  have eT : ∀ j, (kn_T K A B G p j).1 = j := kn_Tn hY.1 hp h4
  intro n
  induction n with
  | zero =>
    intro i hi it hs
    have h40 := kn_T40 hY.1 hp hs.1
    rw [eT] at h40
    exact absurd hi (by omega)
  | succ n ih =>
    intro i hi it hs
    have h40 := kn_T40 hY.1 hp hs.1
    rw [eT] at h40
    refine And.intro (kn_v8 hp) ?_
    rw [nI_clamp (show p < 2 ^ 31 by omega), ekd]
    rcases hk with hk | hk
    · rw [hk]
      refine br_t rfl ?_
      unfold wY_start_20
      refine pk_le 40 i (fun z => ?_) (fun z => And.intro (kn_v8 hp) ?_)
      · have e := h0 it i hs (fun y => absurd y.1 (by rw [eT]; omega))
        rw [eT] at e
        exact e
      · rw [nI_clamp (show p < 2 ^ 31 by omega), ekd, hk]
        refine br_t rfl ⟨kn_v8 hp, ?_⟩
        unfold wY_start_58
        refine yw_put hp z ?_
        refine nm_r (nI_1 i) ?_
        have hE : kn_E K A B l G p i := by unfold kn_E; rw [hk]; exact ⟨by rw [eT]; exact z, trivial⟩
        refine ih (i + 1) (by omega) _ (kn_SIm hY hp hs hE (kn_M1 h4 i) (eT i) ?_)
        unfold kn_V; rw [hk]
        show _ = nu p + nI (kn_T K A B G p i).1
        rw [eT]
    · rw [hk]
      refine br_f (by decide) ?_
      unfold wY_start_20
      refine pk_le 5 i (fun z => ?_) (fun z => And.intro (kn_v8 hp) ?_)
      · have e := h0 it i hs (by
          intro y; unfold kn_E at y; rw [hk] at y
          have y2 : (kn_T K A B G p i).1 < 5 := y.2
          rw [eT] at y2
          omega)
        rw [eT] at e
        exact e
      · rw [nI_clamp (show p < 2 ^ 31 by omega), ekd, hk]
        refine br_f (by decide) ⟨kn_v8 hp, ?_⟩
        unfold wY_start_58
        refine yw_put hp (by omega) ?_
        refine nm_r (nI_1 i) ?_
        have hE : kn_E K A B l G p i := by
          unfold kn_E; rw [hk]
          exact ⟨by rw [eT]; omega, by show (kn_T K A B G p i).1 < 5; rw [eT]; exact z⟩
        refine ih (i + 1) (by omega) _ (kn_SIm hY hp hs hE (kn_M1 h4 i) (eT i) ?_)
        unfold kn_V; rw [hk]
        show _ = nu p * (2 * nI (kn_T K A B G p i).1 + 1)
        rw [eT]

/-! ADD -/
theorem kn_tr_2 (gx gy : Nat → Int32) (j : Nat) : (kn_tr 2 gx gy j).2.1 = j ∧ (kn_tr 2 gx gy j).2.2.1 = j := by
  induction j with
  | zero => exact ⟨rfl, rfl⟩
  | succ j ih =>
    rw [kn_tr_s]
    show (kn_tr 2 gx gy j).2.1 + 1 = _ ∧ (kn_tr 2 gx gy j).2.2.1 + 1 = _
    rw [ih.1, ih.2]
    exact ⟨rfl, rfl⟩

theorem yw_add_stop {post : Int32 → SY → Prop} {p : Nat} {x2 : Int32} (hY : kn_YC K A B g G l kd ix iy nu le) (hp : p < 8)
    (h0 : post x2 (fk, kd, ix, iy, nu, it, le)) :
    ∀ n i, 40 < n + i → i ≤ 40 → (l (A p) ≤ i ∨ l (B p) ≤ i) → wY_add_4 post (nI p) n x2 (nI i) fk kd ix iy nu it le := by
  obtain ⟨_, eix, eiy⟩ := hY.2.1 p hp
  obtain ⟨_, hA, hB⟩ := hY.1 p hp
  have ela := hY.2.2.2.2 _ hA
  have elb := hY.2.2.2.2 _ hB
  have ha40 := kn_YC40 hY hA
  have hb40 := kn_YC40 hY hB
  intro n
  induction n with
  | zero => intro i h1 h2; exact absurd h1 (by omega)
  | succ n ih =>
    intro i h1 h2 h3
    refine pk_le 40 i (fun _ => h0) (fun z => ?_)
    rw [nI_clamp (show p < 2 ^ 31 by omega), eix, eiy, nI_clamp (show A p < 2 ^ 31 by omega), nI_clamp (show B p < 2 ^ 31 by omega), ela, elb]
    refine ⟨kn_v8 hp, kn_v8 hA, pk_le (l (A p)) i (fun z1 => nm_r (nI_1 i) (ih (i + 1) (by omega) (by omega) (by omega))) (fun z1 => ⟨kn_v8 hp, kn_v8 hB, pk_le (l (B p)) i (fun z2 => nm_r (nI_1 i) (ih (i + 1) (by omega) (by omega) (by omega))) (fun z2 => absurd h3 (by omega))⟩)⟩

theorem yw_add {post : Int32 → SY → Prop} {p : Nat} (hY : kn_YC K A B g G l kd ix iy nu le) (hp : p < 8) (hk : K p = 2)
    (h0 : ∀ it' j, kn_SI K A B G l p j it' → ¬ kn_E K A B l G p j → post (nI (kn_T K A B G p j).1) (fk, kd, ix, iy, nu, it', le)) :
    ∀ n i, 40 < n + i → ∀ it, kn_SI K A B G l p i it → wY_add_4 post (nI p) n (nI i) (nI i) fk kd ix iy nu it le := by
  have h4 : K p ≠ 4 := by omega
  have eT : ∀ j, (kn_T K A B G p j).1 = j := kn_Tn hY.1 hp h4
  have eR : ∀ j, (kn_T K A B G p j).2.1 = j ∧ (kn_T K A B G p j).2.2.1 = j := by
    intro j; unfold kn_T; rw [hk]; exact kn_tr_2 _ _ j
  obtain ⟨_, eix, eiy⟩ := hY.2.1 p hp
  obtain ⟨_, hA, hB⟩ := hY.1 p hp
  have ela := hY.2.2.2.2 _ hA
  have elb := hY.2.2.2.2 _ hB
  have ha40 := kn_YC40 hY hA
  have hb40 := kn_YC40 hY hB
  have bl : ∀ i, (l (A p) ≤ i ∨ l (B p) ≤ i) → ¬ kn_E K A B l G p i := by
    intro i hi y
    unfold kn_E at y; rw [hk] at y
    have y2 : (kn_T K A B G p i).2.1 < l (A p) ∧ (kn_T K A B G p i).2.2.1 < l (B p) := y.2
    rw [(eR i).1, (eR i).2] at y2
    omega
  intro n
  induction n with
  | zero =>
    intro i hi it hs
    have h40 := kn_T40 hY.1 hp hs.1
    rw [eT] at h40
    exact absurd hi (by omega)
  | succ n ih =>
    intro i hi it hs
    have h40 := kn_T40 hY.1 hp hs.1
    rw [eT] at h40
    have hend : ¬ kn_E K A B l G p i → post (nI i) (fk, kd, ix, iy, nu, it, le) := by
      intro y
      have e := h0 it i hs y
      rw [eT] at e
      exact e
    refine pk_le 40 i (fun z => hend (fun y => absurd y.1 (by rw [eT]; omega))) (fun z => ?_)
    rw [nI_clamp (show p < 2 ^ 31 by omega), eix, eiy, nI_clamp (show A p < 2 ^ 31 by omega), nI_clamp (show B p < 2 ^ 31 by omega), ela, elb]
    refine ⟨kn_v8 hp, kn_v8 hA, pk_le (l (A p)) i (fun z1 => nm_r (nI_1 i) ?_) (fun z1 => ⟨kn_v8 hp, kn_v8 hB, pk_le (l (B p)) i (fun z2 => nm_r (nI_1 i) ?_) (fun z2 => ?_)⟩)⟩
    · exact yw_add_stop hY hp (hend (bl i (Or.inl z1))) n (i + 1) (by omega) (by omega) (by omega)
    · exact yw_add_stop hY hp (hend (bl i (Or.inr z2))) n (i + 1) (by omega) (by omega) (by omega)
    · rw [kn_ix, kn_ix, nI_clamp (show A p * 40 + i < 2 ^ 31 by omega), nI_clamp (show B p * 40 + i < 2 ^ 31 by omega)]
      refine ⟨kn_v8 hp, vp_in_nI (by omega) (by decide), kn_v8 hp, vp_in_nI (by omega) (by decide), ?_⟩
      refine yw_put hp z ?_
      refine nm_r (nI_1 i) ?_
      have hE : kn_E K A B l G p i := by
        unfold kn_E; rw [hk]
        refine ⟨by rw [eT]; exact z, ?_⟩
        show (kn_T K A B G p i).2.1 < l (A p) ∧ (kn_T K A B G p i).2.2.1 < l (B p)
        rw [(eR i).1, (eR i).2]
        exact ⟨z1, z2⟩
      refine ih (i + 1) (by omega) _ (kn_SIm hY hp hs hE (kn_M1 h4 i) (eT i) ?_)
      unfold kn_V; rw [hk]
      show _ = G (A p) (kn_T K A B G p i).2.1 + G (B p) (kn_T K A B G p i).2.2.1
      rw [(eR i).1, (eR i).2, hs.2.1 _ hA i z1, hs.2.1 _ hB i z2]
end
end
section
/-! Y: TURN, ODD, DELAY, SUM, MERGE, and stream -/
theorem kn_rem2 {i : Nat} (h : i < 2 ^ 31) : nI i - nI i / 2 * 2 = nI (i % 2) := pk_rem (d := 2) h (by omega) (by omega)
theorem kn_div2 {i : Nat} (h : i < 2 ^ 31) : nI i / 2 = nI (i / 2) := pk_div (d := 2) h (by omega) (by omega)

theorem kn_tr_3 (gx gy : Nat → Int32) (j : Nat) : (kn_tr 3 gx gy j).2.1 = (j + 1) / 2 ∧ (kn_tr 3 gx gy j).2.2.1 = j / 2 := by
  induction j with
  | zero => exact ⟨rfl, rfl⟩
  | succ j ih =>
    have e1 := kn_tr_n (k := 3) (by omega) (by omega) gx gy j
    rw [kn_tr_s]
    by_cases z : j % 2 = 0
    · have e : kn_nx 3 gx gy (kn_tr 3 gx gy j) = ((kn_tr 3 gx gy j).1 + 1, (kn_tr 3 gx gy j).2.1 + 1, (kn_tr 3 gx gy j).2.2.1, (kn_tr 3 gx gy j).2.2.2) := if_pos (by rw [e1]; exact z)
      rw [e]
      show (kn_tr 3 gx gy j).2.1 + 1 = _ ∧ (kn_tr 3 gx gy j).2.2.1 = _
      rw [ih.1, ih.2]
      omega
    · have e : kn_nx 3 gx gy (kn_tr 3 gx gy j) = ((kn_tr 3 gx gy j).1 + 1, (kn_tr 3 gx gy j).2.1, (kn_tr 3 gx gy j).2.2.1 + 1, (kn_tr 3 gx gy j).2.2.2) := if_neg (by rw [e1]; exact z)
      rw [e]
      show (kn_tr 3 gx gy j).2.1 = _ ∧ (kn_tr 3 gx gy j).2.2.1 + 1 = _
      rw [ih.1, ih.2]
      omega

theorem kn_tr_5 (gx gy : Nat → Int32) (j : Nat) : (kn_tr 5 gx gy j).2.1 = j - 1 := by
  induction j with
  | zero => rfl
  | succ j ih =>
    have e1 := kn_tr_n (k := 5) (by omega) (by omega) gx gy j
    rw [kn_tr_s]
    by_cases z : j = 0
    · have e : kn_nx 5 gx gy (kn_tr 5 gx gy j) = ((kn_tr 5 gx gy j).1 + 1, (kn_tr 5 gx gy j).2.1, (kn_tr 5 gx gy j).2.2.1, (kn_tr 5 gx gy j).2.2.2) := if_pos (by rw [e1]; exact z)
      rw [e]
      show (kn_tr 5 gx gy j).2.1 = _
      omega
    · have e : kn_nx 5 gx gy (kn_tr 5 gx gy j) = ((kn_tr 5 gx gy j).1 + 1, (kn_tr 5 gx gy j).2.1 + 1, (kn_tr 5 gx gy j).2.2.1, (kn_tr 5 gx gy j).2.2.2) := if_neg (by rw [e1]; exact z)
      rw [e]
      show (kn_tr 5 gx gy j).2.1 + 1 = _
      omega

theorem kn_tr_7 (gx gy : Nat → Int32) (j : Nat) : (kn_tr 7 gx gy j).2.1 = j := by
  induction j with
  | zero => rfl
  | succ j ih =>
    rw [kn_tr_s]
    show (kn_tr 7 gx gy j).2.1 + 1 = _
    rw [ih]

section
variable {K A B : Nat → Nat} {g : Nat → Nat} {G : Nat → Nat → Int32} {l : Nat → Nat}
variable {fk : Int32} {kd ix iy nu it le : Nat → Int32}

/-! TURN -/
theorem yw_turn_stop {post : Int32 → SY → Prop} {p j : Nat} (hY : kn_YC K A B g G l kd ix iy nu le) (hp : p < 8)
    (h0 : post (nI j) (fk, kd, ix, iy, nu, it, le)) :
    ∀ n i, 40 < n + i → i ≤ 40 → j < i → wY_turn_4 post (nI p) n (nI j) (nI i) fk kd ix iy nu it le := by
  intro n
  induction n with
  | zero => intro i h1 h2; exact absurd h1 (by omega)
  | succ n ih =>
    intro i h1 h2 h3
    refine pk_le 40 i (fun _ => h0) (fun z => And.intro (by decide) ?_)
    have hx : ∀ z0, wY_turn_31 post (wY_turn_4 post (nI p) n) (nI p) (nI j) (nI i) z0 fk kd ix iy nu it le := by
      intro z0
      unfold wY_turn_31
      exact pk_eq j i (fun e => absurd e (by omega)) (fun _ => nm_r (nI_1 i) (ih (i + 1) (by omega) (by omega) (by omega)))
    exact br_c (fun _ => And.intro (kn_v8 hp) (hx _)) (fun _ => And.intro (kn_v8 hp) (hx _))

theorem yw_turn {post : Int32 → SY → Prop} {p : Nat} (hY : kn_YC K A B g G l kd ix iy nu le) (hp : p < 8) (hk : K p = 3)
    (h0 : ∀ it' j, kn_SI K A B G l p j it' → ¬ kn_E K A B l G p j → post (nI (kn_T K A B G p j).1) (fk, kd, ix, iy, nu, it', le)) :
    ∀ n i, 40 < n + i → ∀ it, kn_SI K A B G l p i it → wY_turn_4 post (nI p) n (nI i) (nI i) fk kd ix iy nu it le := by
  have h4 : K p ≠ 4 := by omega
  have eT : ∀ j, (kn_T K A B G p j).1 = j := kn_Tn hY.1 hp h4
  have eR : ∀ j, (kn_T K A B G p j).2.1 = (j + 1) / 2 ∧ (kn_T K A B G p j).2.2.1 = j / 2 := by
    intro j; unfold kn_T; rw [hk]; exact kn_tr_3 _ _ j
  obtain ⟨_, eix, eiy⟩ := hY.2.1 p hp
  obtain ⟨_, hA, hB⟩ := hY.1 p hp
  intro n
  induction n with
  | zero =>
    intro i hi it hs
    have h40 := kn_T40 hY.1 hp hs.1
    rw [eT] at h40
    exact absurd hi (by omega)
  | succ n ih =>
    intro i hi it hs
    have h40 := kn_T40 hY.1 hp hs.1
    rw [eT] at h40
    have hend : ¬ kn_E K A B l G p i → post (nI i) (fk, kd, ix, iy, nu, it, le) := by
      intro y
      have e := h0 it i hs y
      rw [eT] at e
      exact e
    refine pk_le 40 i (fun z => hend (fun y => absurd y.1 (by rw [eT]; omega))) (fun z => And.intro (by decide) ?_)
    have hx : ∀ y, y < 8 → (i / 2 < l y → kn_E K A B l G p i ∧ G y (i / 2) = kn_V K A B nu G p i) → (l y ≤ i / 2 → ¬ kn_E K A B l G p i) →
        wY_turn_31 post (wY_turn_4 post (nI p) n) (nI p) (nI i) (nI i) (nI y) fk kd ix iy nu it le := by
      intro y hy h1 h2
      have ely := hY.2.2.2.2 _ hy
      have ly40 := kn_YC40 hY hy
      unfold wY_turn_31
      rw [kn_div2 (by omega), kn_ix, nI_clamp (show y < 2 ^ 31 by omega), nI_clamp (show y * 40 + i / 2 < 2 ^ 31 by omega), ely]
      refine br_t rfl ⟨by decide, kn_v8 hy, pk_le (l y) (i / 2) (fun z1 => nm_r (nI_1 i) ?_) (fun z1 => ⟨by decide, vp_in_nI (by omega) (by decide), ?_⟩)⟩
      · exact yw_turn_stop hY hp (hend (h2 z1)) n (i + 1) (by omega) (by omega) (by omega)
      · refine yw_put hp z ?_
        refine nm_r (nI_1 i) ?_
        refine ih (i + 1) (by omega) _ (kn_SIm hY hp hs (h1 z1).1 (kn_M1 h4 i) (eT i) ?_)
        rw [hs.2.1 _ hy _ z1]
        exact (h1 z1).2
    rw [kn_rem2 (by omega), nI_clamp (show p < 2 ^ 31 by omega), eix, eiy]
    refine pk_eq (i % 2) 0 (fun z1 => And.intro (kn_v8 hp) (hx _ hA ?_ ?_)) (fun z1 => And.intro (kn_v8 hp) (hx _ hB ?_ ?_))
    · intro z2
      refine ⟨?_, ?_⟩
      · unfold kn_E; rw [hk]
        refine ⟨by rw [eT]; exact z, ?_, ?_⟩
        · intro _; rw [(eR i).1]; omega
        · intro y; rw [eT] at y; omega
      · unfold kn_V; rw [hk]
        show _ = if (kn_T K A B G p i).1 % 2 = 0 then G (A p) (kn_T K A B G p i).2.1 else G (B p) (kn_T K A B G p i).2.2.1
        rw [if_pos (by rw [eT]; exact z1), (eR i).1]
        exact congrArg (G (A p)) (by omega)
    · intro z2 y
      unfold kn_E at y; rw [hk] at y
      have y2 := y.2.1 (by rw [eT]; exact z1)
      rw [(eR i).1] at y2
      omega
    · intro z2
      refine ⟨?_, ?_⟩
      · unfold kn_E; rw [hk]
        refine ⟨by rw [eT]; exact z, ?_, ?_⟩
        · intro y; rw [eT] at y; omega
        · intro _; rw [(eR i).2]; omega
      · unfold kn_V; rw [hk]
        show _ = if (kn_T K A B G p i).1 % 2 = 0 then G (A p) (kn_T K A B G p i).2.1 else G (B p) (kn_T K A B G p i).2.2.1
        rw [if_neg (by rw [eT]; exact z1), (eR i).2]
    · intro z2 y
      unfold kn_E at y; rw [hk] at y
      have y2 := y.2.2 (by rw [eT]; omega)
      rw [(eR i).2] at y2
      omega

/-! MERGE -/
theorem yw_merge_stop {post : Int32 → SY → Prop} {p a b : Nat} {x2 : Int32} (hY : kn_YC K A B g G l kd ix iy nu le) (hp : p < 8)
    (ha : a < 2 ^ 31) (hb : b < 2 ^ 31) (h3 : l (A p) ≤ a ∨ l (B p) ≤ b)
    (h0 : post x2 (fk, kd, ix, iy, nu, it, le)) :
    ∀ n i, 40 < n + i → i ≤ 40 → wY_merge_10 post (nI p) n x2 (nI a) (nI b) (nI i) fk kd ix iy nu it le := by
  obtain ⟨_, eix, eiy⟩ := hY.2.1 p hp
  obtain ⟨_, hA, hB⟩ := hY.1 p hp
  have ela := hY.2.2.2.2 _ hA
  have elb := hY.2.2.2.2 _ hB
  have ha40 := kn_YC40 hY hA
  have hb40 := kn_YC40 hY hB
  intro n
  induction n with
  | zero => intro i h1 h2; exact absurd h1 (by omega)
  | succ n ih =>
    intro i h1 h2
    refine pk_le 40 i (fun _ => h0) (fun z => ?_)
    rw [nI_clamp (show p < 2 ^ 31 by omega), eix, eiy, nI_clamp (show A p < 2 ^ 31 by omega), nI_clamp (show B p < 2 ^ 31 by omega), ela, elb]
    exact ⟨kn_v8 hp, kn_v8 hA, pk_le (l (A p)) a (fun z1 => nm_r (nI_1 i) (ih (i + 1) (by omega) (by omega))) (fun z1 => ⟨kn_v8 hp, kn_v8 hB, pk_le (l (B p)) b (fun z2 => nm_r (nI_1 i) (ih (i + 1) (by omega) (by omega))) (fun z2 => absurd h3 (by omega))⟩)⟩

theorem yw_merge {post : Int32 → SY → Prop} {p : Nat} (hY : kn_YC K A B g G l kd ix iy nu le) (hp : p < 8) (hk : K p = 6)
    (h0 : ∀ it' j, kn_SI K A B G l p j it' → ¬ kn_E K A B l G p j → post (nI (kn_T K A B G p j).1) (fk, kd, ix, iy, nu, it', le)) :
    ∀ n i, 40 < n + i → ∀ it, kn_SI K A B G l p i it →
      wY_merge_10 post (nI p) n (nI i) (nI (kn_T K A B G p i).2.1) (nI (kn_T K A B G p i).2.2.1) (nI i) fk kd ix iy nu it le := by
  have h4 : K p ≠ 4 := by omega
  have eT : ∀ j, (kn_T K A B G p j).1 = j := kn_Tn hY.1 hp h4
  obtain ⟨_, eix, eiy⟩ := hY.2.1 p hp
  obtain ⟨_, hA, hB⟩ := hY.1 p hp
  have ela := hY.2.2.2.2 _ hA
  have elb := hY.2.2.2.2 _ hB
  have ha40 := kn_YC40 hY hA
  have hb40 := kn_YC40 hY hB
  intro n
  induction n with
  | zero =>
    intro i hi it hs
    have h40 := kn_T40 hY.1 hp hs.1
    rw [eT] at h40
    exact absurd hi (by omega)
  | succ n ih =>
    intro i hi it hs
    have h40 := kn_T40 hY.1 hp hs.1
    rw [eT] at h40
    have hrd := kn_rd (hY.1 p hp).1 (G (A p)) (G (B p)) i
    have hra : (kn_T K A B G p i).2.1 ≤ i := hrd.1
    have hrb : (kn_T K A B G p i).2.2.1 ≤ i := hrd.2
    have hnx := kn_T_s (K := K) (A := A) (B := B) G p i
    rw [hk] at hnx
    have hend : ¬ kn_E K A B l G p i → post (nI i) (fk, kd, ix, iy, nu, it, le) := by
      intro y
      have e := h0 it i hs y
      rw [eT] at e
      exact e
    have hbl : (l (A p) ≤ (kn_T K A B G p i).2.1 ∨ l (B p) ≤ (kn_T K A B G p i).2.2.1) → ¬ kn_E K A B l G p i := by
      intro hi y
      unfold kn_E at y; rw [hk] at y
      have y2 : (kn_T K A B G p i).2.1 < l (A p) ∧ (kn_T K A B G p i).2.2.1 < l (B p) := y.2
      omega
    refine pk_le 40 i (fun z => hend (fun y => absurd y.1 (by rw [eT]; omega))) (fun z => ?_)
    rw [nI_clamp (show p < 2 ^ 31 by omega), eix, eiy, nI_clamp (show A p < 2 ^ 31 by omega), nI_clamp (show B p < 2 ^ 31 by omega), ela, elb]
    refine ⟨kn_v8 hp, kn_v8 hA, pk_le (l (A p)) (kn_T K A B G p i).2.1 (fun z1 => nm_r (nI_1 i) ?_) (fun z1 => ⟨kn_v8 hp, kn_v8 hB, pk_le (l (B p)) (kn_T K A B G p i).2.2.1 (fun z2 => nm_r (nI_1 i) ?_) (fun z2 => ?_)⟩)⟩
    · exact yw_merge_stop hY hp (by omega) (by omega) (Or.inl z1) (hend (hbl (Or.inl z1))) n (i + 1) (by omega) (by omega)
    · exact yw_merge_stop hY hp (by omega) (by omega) (Or.inr z2) (hend (hbl (Or.inr z2))) n (i + 1) (by omega) (by omega)
    · rw [kn_ix, kn_ix, nI_clamp (show A p * 40 + (kn_T K A B G p i).2.1 < 2 ^ 31 by omega), nI_clamp (show B p * 40 + (kn_T K A B G p i).2.2.1 < 2 ^ 31 by omega)]
      rw [hs.2.1 _ hA _ z1, hs.2.1 _ hB _ z2]
      have hE : kn_E K A B l G p i := by
        unfold kn_E; rw [hk]
        exact ⟨by rw [eT]; exact z, z1, z2⟩
      have hV : kn_V K A B nu G p i = if G (B p) (kn_T K A B G p i).2.2.1 < G (A p) (kn_T K A B G p i).2.1 then G (B p) (kn_T K A B G p i).2.2.1 else G (A p) (kn_T K A B G p i).2.1 := by
        unfold kn_V; rw [hk]; rfl
      refine ⟨kn_v8 hp, vp_in_nI (by omega) (by decide), nm_e ⟨kn_v8 hp, vp_in_nI (by omega) (by decide), nm_e (br_c (fun y => ?_) (fun y => ?_))⟩⟩
      · have y' : ¬ G (B p) (kn_T K A B G p i).2.2.1 < G (A p) (kn_T K A B G p i).2.1 := Int32.not_lt.mpr y
        have e2 : kn_T K A B G p (i + 1) = ((kn_T K A B G p i).1 + 1, (kn_T K A B G p i).2.1 + 1, (kn_T K A B G p i).2.2.1, (kn_T K A B G p i).2.2.2) := hnx.trans (if_neg y')
        refine yw_put hp z ?_
        refine nm_r (nI_1 _) (nm_r (nI_1 i) ?_)
        have e3 := ih (i + 1) (by omega) _ (kn_SIm hY hp hs hE (kn_M1 h4 i) (eT i) (v := G (A p) (kn_T K A B G p i).2.1) (by rw [hV, if_neg y']))
        rw [e2] at e3
        exact e3
      · have y' : G (B p) (kn_T K A B G p i).2.2.1 < G (A p) (kn_T K A B G p i).2.1 := Int32.not_le.mp y
        have e2 : kn_T K A B G p (i + 1) = ((kn_T K A B G p i).1 + 1, (kn_T K A B G p i).2.1, (kn_T K A B G p i).2.2.1 + 1, (kn_T K A B G p i).2.2.2) := hnx.trans (if_pos y')
        refine yw_put hp z ?_
        refine nm_r (nI_1 _) (nm_r (nI_1 i) ?_)
        have e3 := ih (i + 1) (by omega) _ (kn_SIm hY hp hs hE (kn_M1 h4 i) (eT i) (v := G (B p) (kn_T K A B G p i).2.2.1) (by rw [hV, if_pos y']))
        rw [e2] at e3
        exact e3
end
end
section
/-! Y: ODD, SUM, DELAY, and stream -/
section
variable {K A B : Nat → Nat} {g : Nat → Nat} {G : Nat → Nat → Int32} {l : Nat → Nat}
variable {fk : Int32} {kd ix iy nu it le : Nat → Int32}

theorem kn_Tle (hW : kn_W K A B) {p : Nat} (hp : p < 8) (G : Nat → Nat → Int32) (j : Nat) : (kn_T K A B G p j).1 ≤ j := by
  induction j with
  | zero => exact Nat.le_refl _
  | succ j ih =>
    have e := kn_T_n hW hp G j
    have m := kn_m01 (K p) (G (A p)) (kn_T K A B G p j)
    unfold kn_M at e
    omega

theorem yw_sum7 {post : Int32 → SY → Prop} {p : Nat} (hY : kn_YC K A B g G l kd ix iy nu le) (hp : p < 8) (hk : K p = 7)
    (h0 : ∀ it' j, kn_SI K A B G l p j it' → ¬ kn_E K A B l G p j → post (nI (kn_T K A B G p j).1) (fk, kd, ix, iy, nu, it', le)) :
    ∀ n i, 40 < n + i → i ≤ l (A p) → ∀ it, kn_SI K A B G l p i it →
      wY_one_114 post (nI p) (nI (A p)) (nI (l (A p))) n (nI (kn_T K A B G p i).1) (kn_T K A B G p i).2.2.2 (nI i) fk kd ix iy nu it le := by
  have h4 : K p ≠ 4 := by omega
  have eT : ∀ j, (kn_T K A B G p j).1 = j := kn_Tn hY.1 hp h4
  have eR : ∀ j, (kn_T K A B G p j).2.1 = j := by
    intro j; unfold kn_T; rw [hk]; exact kn_tr_7 _ _ j
  have ekd := (hY.2.1 p hp).1
  obtain ⟨_, hA, hB⟩ := hY.1 p hp
  have ha40 := kn_YC40 hY hA
  intro n
  induction n with
  | zero => intro i h1 h2; exact absurd h1 (by omega)
  | succ n ih =>
    intro i h1 h2 it hs
    refine pk_le (l (A p)) i (fun z => ?_) (fun z => ?_)
    · refine h0 it i hs ?_
      intro y
      unfold kn_E at y; rw [hk] at y
      have y2 : (kn_T K A B G p i).2.1 < l (A p) := y.2
      rw [eR] at y2
      omega
    · have hE : kn_E K A B l G p i := by
        unfold kn_E; rw [hk]
        refine ⟨by rw [eT]; omega, ?_⟩
        show (kn_T K A B G p i).2.1 < l (A p)
        rw [eR]; exact z
      have hV : kn_V K A B nu G p i = (kn_T K A B G p i).2.2.2 + G (A p) i := by
        unfold kn_V; rw [hk]
        show (kn_T K A B G p i).2.2.2 + G (A p) (kn_T K A B G p i).2.1 = _
        rw [eR]
      have hnx := kn_T_s (K := K) (A := A) (B := B) G p i
      rw [hk] at hnx
      have e2 : kn_T K A B G p (i + 1) = ((kn_T K A B G p i).1 + 1, (kn_T K A B G p i).2.1 + 1, (kn_T K A B G p i).2.2.1, (kn_T K A B G p i).2.2.2 + G (A p) (kn_T K A B G p i).2.1) := hnx
      rw [kn_ix, nI_clamp (show A p * 40 + i < 2 ^ 31 by omega), nI_clamp (show p < 2 ^ 31 by omega), ekd, hk, hs.2.1 _ hA i z]
      refine ⟨vp_in_nI (by omega) (by decide), nm_e (nm_e ⟨kn_v8 hp, br_t rfl ?_⟩)⟩
      refine yw_put hp (by rw [eT]; omega) ?_
      refine nm_r (nI_1 i) ?_
      have e3 := ih (i + 1) (by omega) (by omega) _ (kn_SIm hY hp hs hE (kn_M1 h4 i) rfl hV.symm)
      rw [e2, eR] at e3
      exact e3

theorem yw_odd4 {post : Int32 → SY → Prop} {p : Nat} (hY : kn_YC K A B g G l kd ix iy nu le) (hp : p < 8) (hk : K p = 4)
    (h0 : ∀ it' j, kn_SI K A B G l p j it' → ¬ kn_E K A B l G p j → post (nI (kn_T K A B G p j).1) (fk, kd, ix, iy, nu, it', le)) :
    ∀ n i, 40 < n + i → i ≤ l (A p) → ∀ it x5, kn_SI K A B G l p i it →
      wY_one_114 post (nI p) (nI (A p)) (nI (l (A p))) n (nI (kn_T K A B G p i).1) x5 (nI i) fk kd ix iy nu it le := by
  have eR : ∀ j, (kn_T K A B G p j).2.1 = j := by
    intro j; unfold kn_T; rw [hk]; exact kn_tr_4 _ _ j
  have ekd := (hY.2.1 p hp).1
  obtain ⟨_, hA, hB⟩ := hY.1 p hp
  have ha40 := kn_YC40 hY hA
  intro n
  induction n with
  | zero => intro i h1 h2; exact absurd h1 (by omega)
  | succ n ih =>
    intro i h1 h2 it x5 hs
    have hle := kn_Tle hY.1 hp G i
    refine pk_le (l (A p)) i (fun z => ?_) (fun z => ?_)
    · refine h0 it i hs ?_
      intro y
      unfold kn_E at y; rw [hk] at y
      have y2 : (kn_T K A B G p i).2.1 < l (A p) := y.2
      rw [eR] at y2
      omega
    · have hE : kn_E K A B l G p i := by
        unfold kn_E; rw [hk]
        refine ⟨by omega, ?_⟩
        show (kn_T K A B G p i).2.1 < l (A p)
        rw [eR]; exact z
      have hV : kn_V K A B nu G p i = G (A p) i := by
        unfold kn_V; rw [hk]
        show G (A p) (kn_T K A B G p i).2.1 = _
        rw [eR]
      have hnx := kn_T_n hY.1 hp G i
      rw [kn_ix, nI_clamp (show A p * 40 + i < 2 ^ 31 by omega), nI_clamp (show p < 2 ^ 31 by omega), ekd, hk, hs.2.1 _ hA i z]
      refine ⟨vp_in_nI (by omega) (by decide), nm_e (nm_e ⟨kn_v8 hp, br_f (by decide) (br_c (fun y => ?_) (fun y => nm_r (nI_1 i) ?_))⟩)⟩
      · have hm : kn_M K A B G p i = 1 := by
          unfold kn_M kn_m
          rw [if_neg]
          rintro ⟨_, y2⟩
          rw [eR] at y2
          exact y2 y
        refine yw_put hp (by omega) ?_
        refine nm_r (nI_1 i) ?_
        have e3 := ih (i + 1) (by omega) (by omega) _ (x5 + G (A p) i) (kn_SIm hY hp hs hE hm rfl hV.symm)
        rw [hnx, hm] at e3
        exact e3
      · have hm : kn_M K A B G p i = 0 := by
          unfold kn_M kn_m
          rw [if_pos]
          refine ⟨hk, ?_⟩
          rw [eR]
          exact y
        have e3 := ih (i + 1) (by omega) (by omega) _ (x5 + G (A p) i) (kn_SIn hY hp hs hE hm)
        rw [hnx, hm] at e3
        exact e3

/-! DELAY: written from the last item down, every write a right value -/
theorem yw_delay {post : Int32 → SY → Prop} {p top : Nat} (hY : kn_YC K A B g G l kd ix iy nu le) (hp : p < 8) (hk : K p = 5)
    (ht : (39 ≤ l (A p) ∧ top = 39) ∨ (l (A p) < 39 ∧ top = l (A p)))
    (h0 : ∀ it' j, kn_SI K A B G l p j it' → ¬ kn_E K A B l G p j → post (nI (kn_T K A B G p j).1) (fk, kd, ix, iy, nu, it', le)) :
    ∀ i, i ≤ top → ∀ it, kn_CI G l it → (∀ i', i < i' → i' ≤ top → it (p * 40 + i') = G p i') →
      wY_one_44 post (nI p) (nI (A p)) (nI (l (A p))) fk (i + 1) (nI i) kd ix iy nu it le := by
  have h4 : K p ≠ 4 := by omega
  have eT : ∀ j, (kn_T K A B G p j).1 = j := kn_Tn hY.1 hp h4
  have eR : ∀ j, (kn_T K A B G p j).2.1 = j - 1 := by
    intro j; unfold kn_T; rw [hk]; exact kn_tr_5 _ _ j
  obtain ⟨_, hA, hB⟩ := hY.1 p hp
  have ha40 := kn_YC40 hY hA
  have hEa : ∀ j, j < top + 1 → kn_E K A B l G p j := by
    intro j hj
    unfold kn_E; rw [hk]
    refine ⟨by rw [eT]; omega, ?_⟩
    intro y
    rw [eT] at y
    rw [eR]
    omega
  have hEn : ¬ kn_E K A B l G p (top + 1) := by
    intro y
    unfold kn_E at y; rw [hk] at y
    have y1 : (kn_T K A B G p (top + 1)).1 < 40 := y.1
    have y2 : (kn_T K A B G p (top + 1)).2.1 < l (A p) := y.2 (by rw [eT]; omega)
    rw [eT] at y1
    rw [eR] at y2
    omega
  have hG : ∀ j, j < top + 1 → G p j = if j = 0 then nu p else G (A p) (j - 1) := by
    intro j hj
    have e := kn_YV hY hp (fun i hi => hEa i (by omega)) (kn_M1 h4 j)
    unfold kn_V at e
    rw [hk] at e
    have e2 : G p (kn_T K A B G p j).1 = if (kn_T K A B G p j).1 = 0 then nu p else G (A p) (kn_T K A B G p j).2.1 := e
    rw [eT, eR] at e2
    exact e2
  intro i
  induction i with
  | zero =>
    intro _ it hc hi
    refine br_t (by decide) ?_
    rw [show nI p * 40 = nI (p * 40) from pk_mul p 40, nI_clamp (show p * 40 < 2 ^ 31 by omega), nI_clamp (show p < 2 ^ 31 by omega), nI_1]
    refine And.intro (kn_v8 hp) (And.intro (vp_in_nI (by omega) (by decide)) (nm_e ?_))
    have g0 : nu p = G p 0 := by rw [hG 0 (by omega)]; rfl
    have hs : kn_SI K A B G l p (top + 1) (upd it (p * 40) (nu p)) := by
      refine ⟨hEa, kn_CIu hY (p := p) (n := 0) (by omega) g0 hc, ?_⟩
      intro j hj
      rw [eT] at hj
      by_cases e : j = 0
      · subst e
        rw [show p * 40 + 0 = p * 40 from rfl, pk_us, g0]
      · rw [pk_un (by omega)]
        exact hi j (by omega) (by omega)
    have e := h0 _ _ hs hEn
    rw [eT] at e
    refine pk_le 39 (l (A p)) (fun z => ?_) (fun z => ?_)
    · have e2 : top = 39 := by omega
      rw [e2] at e
      exact e
    · have e2 : top = l (A p) := by omega
      rw [e2] at e
      exact e
  | succ i ih =>
    intro h1 it hc hi
    refine br_f (nI_nle (by omega) (by omega)) ?_
    rw [kn_ix, kn_ix, show A p * 40 + (i + 1) = (A p * 40 + i) + 1 from rfl, nI_pred, nI_clamp (show A p * 40 + i < 2 ^ 31 by omega), nI_clamp (show p * 40 + (i + 1) < 2 ^ 31 by omega)]
    have hv : it (A p * 40 + i) = G p (i + 1) := by
      rw [hG (i + 1) (by omega), hc _ hA i (by omega)]
      rfl
    refine ⟨vp_in_nI (by omega) (by decide), vp_in_nI (by omega) (by decide), nm_e (nm_r (pk_m1 i) ?_)⟩
    refine ih (by omega) _ (kn_CIu hY (by omega) hv hc) ?_
    intro j hj1 hj2
    by_cases e : j = i + 1
    · subst e; rw [pk_us, hv]
    · rw [pk_un (by omega)]
      exact hi j (by omega) hj2

theorem yw_stream {post : Int32 → SY → Prop} {p : Nat} (hY : kn_YC K A B g G l kd ix iy nu le) (hp : p < 8) (hc : kn_CI G l it)
    (h0 : ∀ it' j, kn_SI K A B G l p j it' → ¬ kn_E K A B l G p j → post (nI (kn_T K A B G p j).1) (fk, kd, ix, iy, nu, it', le)) :
    wpY_stream post (fk, kd, ix, iy, nu, it, le) (nI p) := by
  obtain ⟨ekd, eix, eiy⟩ := hY.2.1 p hp
  obtain ⟨hK, hA, hB⟩ := hY.1 p hp
  have ela := hY.2.2.2.2 _ hA
  have ha40 := kn_YC40 hY hA
  have one : (K p = 5 ∨ K p = 4 ∨ K p = 7) → wpY_one (fun r u => match u with | (f_known_10, a_kinds_11, a_xs_12, a_ys_13, a_numbers_14, a_items_15, a_lengths_16) => (post r (f_known_10, a_kinds_11, a_xs_12, a_ys_13, a_numbers_14, a_items_15, a_lengths_16))) (fk, kd, ix, iy, nu, it, le) (nI p) := by
    intro hk
    unfold wpY_one
    dsimp only
    rw [nI_clamp (show p < 2 ^ 31 by omega), ekd, eix]
    refine And.intro (kn_v8 hp) (nm_e (And.intro (kn_v8 hA) ?_))
    rw [nI_clamp (show A p < 2 ^ 31 by omega), ela]
    refine nm_e (And.intro (kn_v8 hp) ?_)
    rcases hk with hk | hk | hk
    · rw [hk]
      refine br_t rfl (pk_le 39 (l (A p)) (fun z => ⟨40, ?_⟩) (fun z => ⟨l (A p) + 1, ?_⟩))
      · exact yw_delay (top := 39) hY hp hk (by omega) h0 39 (by omega) it hc (fun i' h1 h2 => absurd h1 (by omega))
      · exact yw_delay (top := l (A p)) hY hp hk (by omega) h0 (l (A p)) (by omega) it hc (fun i' h1 h2 => absurd h1 (by omega))
    · rw [hk]
      refine br_f (by decide) ⟨41, ?_⟩
      exact yw_odd4 hY hp hk h0 41 0 (by omega) (by omega) it 0 (kn_SI0 p hc)
    · rw [hk]
      refine br_f (by decide) ⟨41, ?_⟩
      exact yw_sum7 hY hp hk h0 41 0 (by omega) (by omega) it (kn_SI0 p hc)
  unfold wpY_stream
  dsimp only
  rw [nI_clamp (show p < 2 ^ 31 by omega), ekd]
  refine And.intro (kn_v8 hp) ?_
  rcases kn_c8 hK with k | k | k | k | k | k | k | k
  · rw [k]
    refine br_f (by decide) ⟨41, ?_⟩
    exact yw_start hY hp (Or.inl k) h0 41 0 (by omega) it (kn_SI0 p hc)
  · rw [k]
    refine br_f (by decide) ⟨41, ?_⟩
    exact yw_start hY hp (Or.inr k) h0 41 0 (by omega) it (kn_SI0 p hc)
  · rw [k]
    refine br_t (by decide) ⟨kn_v8 hp, br_t rfl ⟨41, ?_⟩⟩
    exact yw_add hY hp k h0 41 0 (by omega) it (kn_SI0 p hc)
  · rw [k]
    refine br_t (by decide) ⟨kn_v8 hp, br_f (by decide) ⟨kn_v8 hp, br_t rfl ⟨41, ?_⟩⟩⟩
    exact yw_turn hY hp k h0 41 0 (by omega) it (kn_SI0 p hc)
  · rw [k]
    exact br_t (by decide) ⟨kn_v8 hp, br_f (by decide) ⟨kn_v8 hp, br_f (by decide) ⟨kn_v8 hp, br_f (by decide) (one (by omega))⟩⟩⟩
  · rw [k]
    exact br_t (by decide) ⟨kn_v8 hp, br_f (by decide) ⟨kn_v8 hp, br_f (by decide) ⟨kn_v8 hp, br_f (by decide) (one (by omega))⟩⟩⟩
  · rw [k]
    refine br_t (by decide) ⟨kn_v8 hp, br_f (by decide) ⟨kn_v8 hp, br_f (by decide) ⟨kn_v8 hp, br_t rfl ⟨41, ?_⟩⟩⟩⟩
    exact yw_merge hY hp k h0 41 0 (by omega) it (kn_SI0 p hc)
  · rw [k]
    exact br_t (by decide) ⟨kn_v8 hp, br_f (by decide) ⟨kn_v8 hp, br_f (by decide) ⟨kn_v8 hp, br_f (by decide) (one (by omega))⟩⟩⟩
end
end
section
/-! Y: the passes -/
def kn_YP (K A B : Nat → Nat) (g : Nat → Nat) (G : Nat → Nat → Int32) (c : Nat → Nat) (it le : Nat → Int32) : Prop :=
  ∀ p, p < 8 → (∀ j, j < c p → kn_E K A B g G p j) ∧ (∀ j, j < c p → kn_E K A B (kn_L K A B G c) G p j) ∧ le p = nI (kn_L K A B G c p)
    ∧ ∀ i, i < kn_L K A B G c p → it (p * 40 + i) = G p i

/-- all streams known -/
def kn_YF (g : Nat → Nat) (G : Nat → Nat → Int32) (it le : Nat → Int32) : Prop :=
  ∀ q, q < 8 → le q = nI (g q) ∧ ∀ i, i < g q → it (q * 40 + i) = G q i

section
variable {K A B : Nat → Nat} {g : Nat → Nat} {G : Nat → Nat → Int32} {c : Nat → Nat}
variable {fk : Int32} {kd ix iy nu it le : Nat → Int32}

theorem kn_YPC (hW : kn_W K A B) (hN : kn_NB kd ix iy K A B) (hF : kn_Lfp K A B nu g G) (hP : kn_YP K A B g G c it le) :
    kn_YC K A B g G (kn_L K A B G c) kd ix iy nu le ∧ kn_CI G (kn_L K A B G c) it :=
  ⟨⟨hW, hN, hF, fun q hq => kn_snd hF hq (hP q hq).1, fun q hq => (hP q hq).2.2.1⟩, fun q hq => (hP q hq).2.2.2⟩

theorem yw_pass {post : SY → Prop} {J : Int32 → Int32 → Int32 → (Nat → Int32) → (Nat → Int32) → (Nat → Int32) → (Nat → Int32) → (Nat → Int32) → (Nat → Int32) → Prop}
    {k s0 : Nat} (hW : kn_W K A B) (hN : kn_NB kd ix iy K A B) (hF : kn_Lfp K A B nu g G)
    (H : ∀ c it le x1, kn_YP K A B g G c it le → ((x1 = 0 ∧ ∀ q, q < 8 → ¬ kn_E K A B (kn_L K A B G c) G q (c q)) ∨ (x1 = 1 ∧ s0 + 1 ≤ kn_s8 (kn_L K A B G c))) →
      J x1 (nI (k + 1)) fk kd ix iy nu it le) :
    ∀ d i, i + d = 8 → ∀ n, d < n → ∀ c it le x1, kn_YP K A B g G c it le →
      ((x1 = 0 ∧ (∀ q, q < i → ¬ kn_E K A B (kn_L K A B G c) G q (c q)) ∧ s0 ≤ kn_s8 (kn_L K A B G c)) ∨ (x1 = 1 ∧ s0 + 1 ≤ kn_s8 (kn_L K A B G c))) →
      wY_workOut_53 post J (nI k) n x1 (nI i) fk kd ix iy nu it le := by
  intro d
  induction d with
  | zero =>
    intro i hi n hn c it le x1 hP hx
    obtain ⟨n, rfl⟩ : ∃ m, n = m + 1 := ⟨n - 1, by omega⟩
    refine pk_le 8 i (fun z => nm_r (nI_1 k) (H c it le x1 hP ?_)) (fun z => absurd z (by omega))
    rcases hx with ⟨h1, h2, _⟩ | hx
    · exact Or.inl ⟨h1, fun q hq => h2 q (by omega)⟩
    · exact Or.inr hx
  | succ d ih =>
    intro i hi n hn c it le x1 hP hx
    obtain ⟨n, rfl⟩ : ∃ m, n = m + 1 := ⟨n - 1, by omega⟩
    have hi8 : i < 8 := by omega
    obtain ⟨hY, hC⟩ := kn_YPC hW hN hF hP
    refine pk_le 8 i (fun z => absurd z (by omega)) (fun _ => ?_)
    refine yw_stream hY hi8 hC ?_
    intro it' j hs hb
    dsimp only
    rw [nI_clamp (show i < 2 ^ 31 by omega), (hP i hi8).2.2.1]
    have hcj : c i ≤ j := by
      by_cases z : c i ≤ j
      · exact z
      · exact absurd ((hP i hi8).2.1 j (by omega)) hb
    have h40 := kn_T40 hW hi8 hs.1
    have hl40 := kn_YC40 hY hi8
    have hmn : kn_L K A B G c i ≤ (kn_T K A B G i j).1 := kn_T_mono hW hi8 G hcj
    have hLi : kn_L K A B G (kn_u c i j) i = (kn_T K A B G i j).1 := by unfold kn_L; rw [kn_us]
    have hLq : ∀ q, q ≠ i → kn_L K A B G (kn_u c i j) q = kn_L K A B G c q := by
      intro q hq; unfold kn_L; rw [kn_un hq]
    have hLm : ∀ q, q < 8 → kn_L K A B G c q ≤ kn_L K A B G (kn_u c i j) q := by
      intro q hq
      by_cases e : q = i
      · subst e; rw [hLi]; exact hmn
      · rw [hLq q e]; exact Nat.le_refl _
    have hEg : ∀ q, q < 8 → ∀ j', j' < kn_u c i j q → kn_E K A B g G q j' := by
      intro q hq j' hj'
      by_cases e : q = i
      · subst e
        rw [kn_us] at hj'
        exact kn_E_mono hW hq hY.2.2.2.1 (hs.1 j' hj')
      · rw [kn_un e] at hj'
        exact (hP q hq).1 j' hj'
    have hEl : ∀ q, q < 8 → ∀ j', j' < kn_u c i j q → kn_E K A B (kn_L K A B G (kn_u c i j)) G q j' := by
      intro q hq j' hj'
      by_cases e : q = i
      · subst e
        rw [kn_us] at hj'
        exact kn_E_mono hW hq hLm (hs.1 j' hj')
      · rw [kn_un e] at hj'
        exact kn_E_mono hW hq hLm ((hP q hq).2.1 j' hj')
    have hIt : ∀ q, q < 8 → ∀ a, a < kn_L K A B G (kn_u c i j) q → it' (q * 40 + a) = G q a := by
      intro q hq a ha
      by_cases e : q = i
      · subst e
        rw [hLi] at ha
        exact hs.2.2 a ha
      · rw [hLq q e] at ha
        exact hs.2.1 q hq a ha
    refine And.intro (kn_v8 hi8) (pk_eq (kn_T K A B G i j).1 (kn_L K A B G c i) (fun z => nm_r (nI_1 i) ?_) (fun z => And.intro (kn_v8 hi8) (nm_e (nm_r (nI_1 i) ?_))))
    · have eL : kn_L K A B G (kn_u c i j) = kn_L K A B G c := by
        funext q
        by_cases e : q = i
        · subst e; rw [hLi, z]
        · exact hLq q e
      refine ih (i + 1) (by omega) n (by omega) (kn_u c i j) it' le x1 ?_ ?_
      · intro q hq
        exact ⟨hEg q hq, hEl q hq, by rw [eL]; exact (hP q hq).2.2.1, hIt q hq⟩
      · rw [eL]
        rcases hx with ⟨h1, h2, h3⟩ | hx
        · refine Or.inl ⟨h1, ?_, h3⟩
          intro q hq
          by_cases e : q = i
          · subst e; rw [kn_us]; exact hb
          · rw [kn_un e]; exact h2 q (by omega)
        · exact Or.inr hx
    · have hs8 : kn_s8 (kn_L K A B G c) + 1 ≤ kn_s8 (kn_L K A B G (kn_u c i j)) := kn_s8_lt hi8 hLm (by rw [hLi]; omega)
      refine ih (i + 1) (by omega) n (by omega) (kn_u c i j) it' _ 1 ?_ (Or.inr ⟨rfl, ?_⟩)
      · intro q hq
        refine ⟨hEg q hq, hEl q hq, ?_, hIt q hq⟩
        by_cases e : q = i
        · subst e; rw [pk_us, hLi]
        · rw [pk_un e, hLq q e]; exact (hP q hq).2.2.1
      · rcases hx with ⟨_, _, h3⟩ | ⟨_, h3⟩
        · omega
        · omega

theorem yw_work38 {post : SY → Prop} (hW : kn_W K A B) (hN : kn_NB kd ix iy K A B) (hF : kn_Lfp K A B nu g G)
    (h0 : ∀ it le, kn_YF g G it le → post (fk, kd, ix, iy, nu, it, le)) :
    ∀ n k, 321 < n + k → k ≤ 321 → ∀ c it le x1, kn_YP K A B g G c it le →
      ((x1 = 0 ∧ ∀ q, q < 8 → ¬ kn_E K A B (kn_L K A B G c) G q (c q)) ∨ (x1 = 1 ∧ k ≤ kn_s8 (kn_L K A B G c))) →
      wY_workOut_38 post n x1 (nI k) fk kd ix iy nu it le := by
  intro n
  induction n with
  | zero => intro k h1 h2; exact absurd h1 (by omega)
  | succ n ih =>
    intro k h1 h2 c it le x1 hP hx
    rcases hx with ⟨rfl, hb⟩ | ⟨rfl, hs⟩
    · have hg := kn_full hW hF (fun p hp => (hP p hp).1) hb
      have hp : post (fk, kd, ix, iy, nu, it, le) := by
        refine h0 it le ?_
        intro q hq
        rw [← hg q hq]
        exact (hP q hq).2.2
      exact br_c (fun _ => hp) (fun _ => br_t rfl hp)
    · have hb : kn_s8 (kn_L K A B G c) ≤ 8 * 40 := kn_s8_le (fun q hq => kn_T40 hW hq (hP q hq).1)
      refine pk_le 321 k (fun z => absurd z (by omega)) (fun _ => br_f (by decide) ⟨9, ?_⟩)
      refine yw_pass (s0 := k) hW hN hF ?_ 8 0 rfl 9 (by omega) c it le 0 hP (Or.inl ⟨rfl, fun q hq => absurd hq (by omega), hs⟩)
      intro c' it' le' x1 hP' hx'
      exact ih (k + 1) (by omega) (by omega) c' it' le' x1 hP' hx'

theorem yw_work15 {post : SY → Prop} (h0 : ∀ le, (∀ q, q < 8 → le q = 0) → ∃ n, wY_workOut_38 post n 1 0 fk kd ix iy nu it le) :
    ∀ d i, i + d = 8 → ∀ n, d < n → ∀ le, (∀ q, q < i → le q = 0) → wY_workOut_15 post fk n (nI i) kd ix iy nu it le := by
  intro d
  induction d with
  | zero =>
    intro i hi n hn le hz
    obtain ⟨n, rfl⟩ : ∃ m, n = m + 1 := ⟨n - 1, by omega⟩
    exact pk_le 8 i (fun z => h0 le (fun q hq => hz q (by omega))) (fun z => absurd z (by omega))
  | succ d ih =>
    intro i hi n hn le hz
    obtain ⟨n, rfl⟩ : ∃ m, n = m + 1 := ⟨n - 1, by omega⟩
    refine pk_le 8 i (fun z => absurd z (by omega)) (fun _ => ?_)
    rw [nI_clamp (show i < 2 ^ 31 by omega)]
    refine And.intro (kn_v8 (by omega)) (nm_e (nm_r (nI_1 i) ?_))
    refine ih (i + 1) (by omega) n (by omega) _ ?_
    intro q hq
    by_cases e : q = i
    · subst e; rw [pk_us]
    · rw [pk_un e]; exact hz q (by omega)

theorem yw_workOut {post : SY → Prop} (hW : kn_W K A B) (hN : kn_NB kd ix iy K A B) (hF : kn_Lfp K A B nu g G)
    (hk : fk = 0 ∨ (fk = 1 ∧ kn_YF g G it le))
    (h0 : ∀ it le, kn_YF g G it le → post (1, kd, ix, iy, nu, it, le)) :
    wpY_workOut post (fk, kd, ix, iy, nu, it, le) := by
  rcases hk with rfl | ⟨rfl, hk⟩
  · refine br_t rfl ⟨9, yw_work15 ?_ 8 0 rfl 9 (by omega) le (fun q hq => absurd hq (by omega))⟩
    intro le hz
    refine ⟨322, yw_work38 hW hN hF h0 322 0 (by omega) (by omega) (fun _ => 0) it le 1 ?_ (Or.inr ⟨rfl, Nat.zero_le _⟩)⟩
    intro p hp
    exact ⟨fun j hj => absurd hj (Nat.not_lt_zero _), fun j hj => absurd hj (Nat.not_lt_zero _), hz p hp, fun i hi => absurd hi (Nat.not_lt_zero _)⟩
  · exact br_f (by decide) (h0 it le hk)
end
end
section
/-! the relation's parts; the questions' loops, the same on both sides -/
def kn_X (K A B : Nat → Nat) (g : Nat → Nat) (G : Nat → Nat → Int32) (w h : Int32) (ma rx ry tl it ri li : Nat → Int32) : Prop :=
  ∃ (c : Nat → Nat) (L : List Nat) (hn : Nat), kn_PB K A B g G c ma rx ry tl it ∧ kn_Q w h ri li L hn
    ∧ ∀ q, q < 8 → q ∉ L → ¬ kn_E K A B (kn_L K A B G c) G q (c q)

def kn_bd (x : Int32) : Prop := x < 0 ∨ nI 8 ≤ x
theorem kn_bdc (x : Int32) : kn_bd x ∨ ∃ p : Nat, p < 8 ∧ x = nI p := by
  rcases pk_ix x (n := 8) (by omega) with z | z | z
  · exact Or.inl (Or.inl z)
  · exact Or.inl (Or.inr z)
  · exact Or.inr z

theorem xw_bad1 {post : Int32 → Prop} {x : Int32} (z : kn_bd x) (h : post 1) : wpX_bad post x := by
  rcases z with z | z
  · exact br_t z h
  · have z0 : ¬ x < 0 := fun y => absurd (Int32.lt_of_lt_of_le y (Int32.le_trans (show (0 : Int32) ≤ nI 8 by decide) z)) Int32.lt_irrefl
    exact br_f z0 (br_f (Int32.not_lt.mpr z) h)
theorem xw_bad0 {post : Int32 → Prop} {p : Nat} (hp : p < 8) (h : post 0) : wpX_bad post (nI p) :=
  br_f (nI_pos (by omega)) (br_t (nI_lt (b := 8) hp (by omega)) h)
theorem yw_bad1 {post : Int32 → Prop} {v : SY} {x : Int32} (z : kn_bd x) (h : post 1) : wpY_bad post v x := by
  rcases z with z | z
  · exact br_t z h
  · have z0 : ¬ x < 0 := fun y => absurd (Int32.lt_of_lt_of_le y (Int32.le_trans (show (0 : Int32) ≤ nI 8 by decide) z)) Int32.lt_irrefl
    have z1 : ¬ x ≤ 7 := by
      intro y
      have e := Int32.le_trans z y
      exact absurd e (by decide)
    exact br_f z0 (br_f z1 h)
theorem yw_bad0 {post : Int32 → Prop} {v : SY} {p : Nat} (hp : p < 8) (h : post 0) : wpY_bad post v (nI p) :=
  br_f (nI_pos (by omega)) (br_t (nI_le (b := 7) (by omega) (by omega)) h)

def kn_sum (f : Nat → Int32) : Nat → Int32
  | 0 => 0
  | i + 1 => kn_sum f i + f i
def kn_find (f : Nat → Int32) (v : Int32) : Nat → Nat → Int32
  | 0, _ => -3
  | d + 1, i => if f i = v then nI i else kn_find f v d (i + 1)
def kn_same (f f' : Nat → Int32) : Nat → Nat → Int32
  | 0, _ => 1
  | d + 1, i => if f i = f' i then kn_same f f' d (i + 1) else 0
def kn_cnt (g : Nat → Nat) : Nat → Int32
  | 0 => 0
  | i + 1 => if g i = 40 then kn_cnt g i + 1 else kn_cnt g i

section
variable {K A B : Nat → Nat} {g : Nat → Nat} {G : Nat → Nat → Int32}
variable {w h : Int32} {kd ix iy nu ma rx ry tl it ri li : Nat → Int32}

theorem xw_set2 {post : SX → Prop} (hW : kn_W K A B) (hN : kn_NB kd ix iy K A B) (hF : kn_Lfp K A B nu g G)
    (hX : kn_X K A B g G w h ma rx ry tl it ri li)
    (h0 : ∀ w h ma rx ry tl it ri li, kn_X K A B g G w h ma rx ry tl it ri li → kn_YF g G it ma → post (w, h, kd, ix, iy, nu, ma, rx, ry, tl, it, ri, li)) :
    wpX_settle post (w, h, kd, ix, iy, nu, ma, rx, ry, tl, it, ri, li) := by
  obtain ⟨c, L, hn, hP, hQ, hB⟩ := hX
  refine xw_settle hW hN hF hP hQ hB ?_
  intro w h ma rx ry tl it ri li c hn hP hQ hL hB
  refine h0 w h ma rx ry tl it ri li ⟨c, [], hn, hP, hQ, fun q hq _ => hB q hq⟩ ?_
  intro q hq
  rw [← hL q hq]
  exact ⟨(hP q hq).2.1, (hP q hq).2.2.2.2.2⟩

theorem xw_sum {post : Int32 → SX → Prop} {p : Nat} (hp : p < 8) (h40 : g p ≤ 40) (hY : kn_YF g G it ma)
    (h0 : post (kn_sum (G p) (g p)) (w, h, kd, ix, iy, nu, ma, rx, ry, tl, it, ri, li)) :
    ∀ d i, i + d = g p → wX_sum_17 post (nI p) w h kd ix iy nu ma rx ry tl it ri li (d + 1) (kn_sum (G p) i) (nI i) := by
  obtain ⟨em, eit⟩ := hY p hp
  intro d
  induction d with
  | zero =>
    intro i hi
    refine And.intro (kn_v8 hp) ?_
    rw [nI_clamp (show p < 2 ^ 31 by omega), em]
    have e : i = g p := by omega
    subst e
    exact br_t (Int32.le_refl _) h0
  | succ d ih =>
    intro i hi
    refine And.intro (kn_v8 hp) ?_
    rw [nI_clamp (show p < 2 ^ 31 by omega), em, kn_ix, nI_clamp (show p * 40 + i < 2 ^ 31 by omega), eit i (by omega)]
    exact pk_le (g p) i (fun z => absurd z (by omega)) (fun _ => And.intro (vp_in_nI (by omega) (by decide)) (nm_e (nm_r (nI_1 i) (ih (i + 1) (by omega)))))

theorem xw_find {post : Int32 → SX → Prop} {p : Nat} {v : Int32} (hp : p < 8) (h40 : g p ≤ 40) (hY : kn_YF g G it ma) :
    ∀ d i, i + d = g p → post (kn_find (G p) v d i) (w, h, kd, ix, iy, nu, ma, rx, ry, tl, it, ri, li) →
      wX_find_15 post (nI p) v w h kd ix iy nu ma rx ry tl it ri li (d + 1) (nI i) := by
  obtain ⟨em, eit⟩ := hY p hp
  intro d
  induction d with
  | zero =>
    intro i hi h0
    refine And.intro (kn_v8 hp) ?_
    rw [nI_clamp (show p < 2 ^ 31 by omega), em]
    exact pk_le (g p) i (fun _ => h0) (fun z => absurd z (by omega))
  | succ d ih =>
    intro i hi h0
    refine And.intro (kn_v8 hp) ?_
    rw [nI_clamp (show p < 2 ^ 31 by omega), em, kn_ix, nI_clamp (show p * 40 + i < 2 ^ 31 by omega), eit i (by omega)]
    refine pk_le (g p) i (fun z => absurd z (by omega)) (fun _ => And.intro (vp_in_nI (by omega) (by decide)) (br_c (fun z => ?_) (fun z => nm_r (nI_1 i) (ih (i + 1) (by omega) ?_))))
    · have e : kn_find (G p) v (d + 1) i = nI i := if_pos z
      rw [e] at h0
      exact h0
    · have e : kn_find (G p) v (d + 1) i = kn_find (G p) v d (i + 1) := if_neg z
      rw [e] at h0
      exact h0

theorem xw_same {post : Int32 → SX → Prop} {p q : Nat} (hp : p < 8) (hq : q < 8) (h40 : g p ≤ 40) (he : g p = g q) (hY : kn_YF g G it ma) :
    ∀ d i, i + d = g p → post (kn_same (G p) (G q) d i) (w, h, kd, ix, iy, nu, ma, rx, ry, tl, it, ri, li) →
      wX_same_39 post (nI p) (nI q) w h kd ix iy nu ma rx ry tl it ri li (d + 1) (nI i) := by
  obtain ⟨em, eit⟩ := hY p hp
  obtain ⟨_, eiq⟩ := hY q hq
  intro d
  induction d with
  | zero =>
    intro i hi h0
    refine And.intro (kn_v8 hp) ?_
    rw [nI_clamp (show p < 2 ^ 31 by omega), em]
    exact pk_le (g p) i (fun _ => h0) (fun z => absurd z (by omega))
  | succ d ih =>
    intro i hi h0
    refine And.intro (kn_v8 hp) ?_
    rw [nI_clamp (show p < 2 ^ 31 by omega), em, kn_ix, kn_ix, nI_clamp (show p * 40 + i < 2 ^ 31 by omega), nI_clamp (show q * 40 + i < 2 ^ 31 by omega), eit i (by omega), eiq i (by omega)]
    refine pk_le (g p) i (fun z => absurd z (by omega)) (fun _ => And.intro (vp_in_nI (by omega) (by decide)) (And.intro (vp_in_nI (by omega) (by decide)) (br_c (fun z => nm_r (nI_1 i) (ih (i + 1) (by omega) ?_)) (fun z => ?_))))
    · have e : kn_same (G p) (G q) (d + 1) i = kn_same (G p) (G q) d (i + 1) := if_pos z
      rw [e] at h0
      exact h0
    · have e : kn_same (G p) (G q) (d + 1) i = 0 := if_neg z
      rw [e] at h0
      exact h0

theorem xw_full {post : Int32 → SX → Prop} (h40 : ∀ p, p < 8 → g p ≤ 40) (hY : kn_YF g G it ma)
    (h0 : post (kn_cnt g 8) (w, h, kd, ix, iy, nu, ma, rx, ry, tl, it, ri, li)) :
    ∀ d i, i + d = 8 → wX_full_8 post w h kd ix iy nu ma rx ry tl it ri li (d + 1) (kn_cnt g i) (nI i) := by
  intro d
  induction d with
  | zero =>
    intro i hi
    have e : i = 8 := by omega
    subst e
    exact br_t (by decide) h0
  | succ d ih =>
    intro i hi
    have hi8 : i < 8 := by omega
    have h4 := h40 i hi8
    refine pk_le 8 i (fun z => absurd z (by omega)) (fun _ => And.intro (kn_v8 hi8) ?_)
    rw [nI_clamp (show i < 2 ^ 31 by omega), (hY i hi8).1]
    refine pk_eq (g i) 40 (fun z => nm_e (nm_r (nI_1 i) ?_)) (fun z => nm_r (nI_1 i) ?_)
    · have e : kn_cnt g (i + 1) = kn_cnt g i + 1 := if_pos z
      rw [← e]
      exact ih (i + 1) (by omega)
    · have e : kn_cnt g (i + 1) = kn_cnt g i := if_neg z
      rw [← e]
      exact ih (i + 1) (by omega)
end

section
variable {g : Nat → Nat} {G : Nat → Nat → Int32}
variable {fk : Int32} {kd ix iy nu it ma : Nat → Int32}

theorem yw_sum {post : Int32 → SY → Prop} {p : Nat} (hp : p < 8) (h40 : g p ≤ 40) (hY : kn_YF g G it ma)
    (h0 : post (kn_sum (G p) (g p)) (fk, kd, ix, iy, nu, it, ma)) :
    ∀ d i, i + d = g p → wY_sum_18 post (nI p) fk kd ix iy nu it ma (d + 1) (kn_sum (G p) i) (nI i) := by
  obtain ⟨em, eit⟩ := hY p hp
  intro d
  induction d with
  | zero =>
    intro i hi
    refine And.intro (kn_v8 hp) ?_
    rw [nI_clamp (show p < 2 ^ 31 by omega), em]
    have e : i = g p := by omega
    subst e
    exact br_t (Int32.le_refl _) h0
  | succ d ih =>
    intro i hi
    refine And.intro (kn_v8 hp) ?_
    rw [nI_clamp (show p < 2 ^ 31 by omega), em, kn_ix, nI_clamp (show p * 40 + i < 2 ^ 31 by omega), eit i (by omega)]
    exact pk_le (g p) i (fun z => absurd z (by omega)) (fun _ => And.intro (vp_in_nI (by omega) (by decide)) (nm_e (nm_r (nI_1 i) (ih (i + 1) (by omega)))))

theorem yw_find {post : Int32 → SY → Prop} {p : Nat} {v : Int32} (hp : p < 8) (h40 : g p ≤ 40) (hY : kn_YF g G it ma) :
    ∀ d i, i + d = g p → post (kn_find (G p) v d i) (fk, kd, ix, iy, nu, it, ma) →
      wY_find_16 post (nI p) v fk kd ix iy nu it ma (d + 1) (nI i) := by
  obtain ⟨em, eit⟩ := hY p hp
  intro d
  induction d with
  | zero =>
    intro i hi h0
    refine And.intro (kn_v8 hp) ?_
    rw [nI_clamp (show p < 2 ^ 31 by omega), em]
    exact pk_le (g p) i (fun _ => h0) (fun z => absurd z (by omega))
  | succ d ih =>
    intro i hi h0
    refine And.intro (kn_v8 hp) ?_
    rw [nI_clamp (show p < 2 ^ 31 by omega), em, kn_ix, nI_clamp (show p * 40 + i < 2 ^ 31 by omega), eit i (by omega)]
    refine pk_le (g p) i (fun z => absurd z (by omega)) (fun _ => And.intro (vp_in_nI (by omega) (by decide)) (br_c (fun z => ?_) (fun z => nm_r (nI_1 i) (ih (i + 1) (by omega) ?_))))
    · have e : kn_find (G p) v (d + 1) i = nI i := if_pos z
      rw [e] at h0
      exact h0
    · have e : kn_find (G p) v (d + 1) i = kn_find (G p) v d (i + 1) := if_neg z
      rw [e] at h0
      exact h0

theorem yw_same {post : Int32 → SY → Prop} {p q : Nat} (hp : p < 8) (hq : q < 8) (h40 : g p ≤ 40) (he : g p = g q) (hY : kn_YF g G it ma) :
    ∀ d i, i + d = g p → post (kn_same (G p) (G q) d i) (fk, kd, ix, iy, nu, it, ma) →
      wY_same_41 post (nI p) (nI q) fk kd ix iy nu it ma (d + 1) (nI i) := by
  obtain ⟨em, eit⟩ := hY p hp
  obtain ⟨_, eiq⟩ := hY q hq
  intro d
  induction d with
  | zero =>
    intro i hi h0
    refine And.intro (kn_v8 hp) ?_
    rw [nI_clamp (show p < 2 ^ 31 by omega), em]
    exact pk_le (g p) i (fun _ => h0) (fun z => absurd z (by omega))
  | succ d ih =>
    intro i hi h0
    refine And.intro (kn_v8 hp) ?_
    rw [nI_clamp (show p < 2 ^ 31 by omega), em, kn_ix, kn_ix, nI_clamp (show p * 40 + i < 2 ^ 31 by omega), nI_clamp (show q * 40 + i < 2 ^ 31 by omega), eit i (by omega), eiq i (by omega)]
    refine pk_le (g p) i (fun z => absurd z (by omega)) (fun _ => And.intro (vp_in_nI (by omega) (by decide)) (And.intro (vp_in_nI (by omega) (by decide)) (br_c (fun z => nm_r (nI_1 i) (ih (i + 1) (by omega) ?_)) (fun z => ?_))))
    · have e : kn_same (G p) (G q) (d + 1) i = kn_same (G p) (G q) d (i + 1) := if_pos z
      rw [e] at h0
      exact h0
    · have e : kn_same (G p) (G q) (d + 1) i = 0 := if_neg z
      rw [e] at h0
      exact h0

theorem yw_full {post : Int32 → SY → Prop} (h40 : ∀ p, p < 8 → g p ≤ 40) (hY : kn_YF g G it ma)
    (h0 : post (kn_cnt g 8) (fk, kd, ix, iy, nu, it, ma)) :
    ∀ d i, i + d = 8 → wY_full_8 post fk kd ix iy nu it ma (d + 1) (kn_cnt g i) (nI i) := by
  intro d
  induction d with
  | zero =>
    intro i hi
    have e : i = 8 := by omega
    subst e
    exact br_t (by decide) h0
  | succ d ih =>
    intro i hi
    have hi8 : i < 8 := by omega
    have h4 := h40 i hi8
    refine pk_le 8 i (fun z => absurd z (by omega)) (fun _ => And.intro (kn_v8 hi8) ?_)
    rw [nI_clamp (show i < 2 ^ 31 by omega), (hY i hi8).1]
    refine pk_eq (g i) 40 (fun z => nm_e (nm_r (nI_1 i) ?_)) (fun z => nm_r (nI_1 i) ?_)
    · have e : kn_cnt g (i + 1) = kn_cnt g i + 1 := if_pos z
      rw [← e]
      exact ih (i + 1) (by omega)
    · have e : kn_cnt g (i + 1) = kn_cnt g i := if_neg z
      rw [← e]
      exact ih (i + 1) (by omega)
end
end
section
/-! the relation -/
def kn_R (w h : Int32) (kd ix iy nu ma rx ry tl it ri li : Nat → Int32) (fk : Int32) (it2 le : Nat → Int32) : Prop :=
  ∃ (K A B : Nat → Nat) (g : Nat → Nat) (G : Nat → Nat → Int32), kn_W K A B ∧ kn_NB kd ix iy K A B ∧ kn_Lfp K A B nu g G
    ∧ kn_X K A B g G w h ma rx ry tl it ri li ∧ (fk = 0 ∨ (fk = 1 ∧ kn_YF g G it2 le))

def i_Rel (_ : Nat) (u : SX) (v : SY) : Prop :=
  ∃ (w h : Int32) (kd ix iy nu ma rx ry tl it ri li : Nat → Int32) (fk : Int32) (it2 le : Nat → Int32),
    u = (w, h, kd, ix, iy, nu, ma, rx, ry, tl, it, ri, li) ∧ v = (fk, kd, ix, iy, nu, it2, le) ∧ kn_R w h kd ix iy nu ma rx ry tl it ri li fk it2 le

theorem i_up {k : Nat} {u : SX} {v : SY} (h : i_Rel k u v) : i_Rel (k + 5) u v := h

theorem kn_el {P : SX → SY → Prop} {k : Nat} {u : SX} {v : SY} (I : i_Rel k u v)
    (H : ∀ w h kd ix iy nu ma rx ry tl it ri li fk it2 le, kn_R w h kd ix iy nu ma rx ry tl it ri li fk it2 le →
      P (w, h, kd, ix, iy, nu, ma, rx, ry, tl, it, ri, li) (fk, kd, ix, iy, nu, it2, le)) : P u v := by
  obtain ⟨w, h, kd, ix, iy, nu, ma, rx, ry, tl, it, ri, li, fk, it2, le, e1, e2, hR⟩ := I
  rw [e1, e2]
  exact H w h kd ix iy nu ma rx ry tl it ri li fk it2 le hR

section
variable {k : Nat} {w h : Int32} {kd ix iy nu ma rx ry tl it ri li : Nat → Int32} {fk : Int32} {it2 le : Nat → Int32}
variable {K A B : Nat → Nat} {g : Nat → Nat} {G : Nat → Nat → Int32}

theorem kn_in (hR : kn_R w h kd ix iy nu ma rx ry tl it ri li fk it2 le) :
    i_Rel k (w, h, kd, ix, iy, nu, ma, rx, ry, tl, it, ri, li) (fk, kd, ix, iy, nu, it2, le) :=
  ⟨w, h, kd, ix, iy, nu, ma, rx, ry, tl, it, ri, li, fk, it2, le, rfl, rfl, hR⟩

/-- a restart gives a related state for every net -/
theorem kn_new (hW : kn_W K A B) (hN : kn_NB kd ix iy K A B) {L : List Nat} {hn : Nat}
    (hz : ∀ q, q < 8 → ma q = 0 ∧ rx q = 0 ∧ ry q = 0 ∧ tl q = 0) (hQ : kn_Q w h ri li L hn) (hL : ∀ q, q < 8 → q ∈ L) :
    kn_R w h kd ix iy nu ma rx ry tl it ri li 0 it2 le := by
  obtain ⟨g, G, hF⟩ := kn_ex hW nu
  exact ⟨K, A, B, g, G, hW, hN, hF, ⟨fun _ => 0, L, hn, kn_PB0 hz, hQ, fun q hq hq2 => absurd (hL q hq) hq2⟩, Or.inl rfl⟩

theorem kn_NBu (hN : kn_NB kd ix iy K A B) (p : Nat) {x y z : Int32} {a b c : Nat} (ea : x = nI a) (eb : y = nI b) (ec : z = nI c) :
    kn_NB (upd kd p x) (upd ix p y) (upd iy p z) (kn_u K p a) (kn_u A p b) (kn_u B p c) := by
  intro q hq
  by_cases e : q = p
  · subst e
    rw [pk_us, pk_us, pk_us, kn_us, kn_us, kn_us]
    exact ⟨ea, eb, ec⟩
  · rw [pk_un e, pk_un e, pk_un e, kn_un e, kn_un e, kn_un e]
    exact hN q hq
theorem kn_Wu (hW : kn_W K A B) (p : Nat) {a b c : Nat} (ea : a ≤ 7) (eb : b < 8) (ec : c < 8) : kn_W (kn_u K p a) (kn_u A p b) (kn_u B p c) := by
  intro q hq
  by_cases e : q = p
  · subst e
    rw [kn_us, kn_us, kn_us]
    exact ⟨ea, eb, ec⟩
  · rw [kn_un e, kn_un e, kn_un e]
    exact hW q hq
end

/-! the constructors -/
def kn_k1 : Nat → Nat → Int32
  | 0 => fun _ => 0
  | i + 1 => upd (kn_k1 i) i 1
theorem kn_k1_1 : ∀ i q, q < i → kn_k1 i q = 1 := by
  intro i
  induction i with
  | zero => intro q hq; exact absurd hq (Nat.not_lt_zero _)
  | succ i ih =>
    intro q hq
    show upd (kn_k1 i) i 1 q = 1
    by_cases e : q = i
    · subst e; rw [pk_us]
    · rw [pk_un e]; exact ih q (by omega)

theorem xw_init {post : SX → Prop} {ix iy nu ma rx ry tl it ri li : Nat → Int32}
    (h0 : wpX_restart post (0, 0, kn_k1 8, ix, iy, nu, ma, rx, ry, tl, it, ri, li)) :
    ∀ d i, i + d = 8 → wX_init_95 post 0 0 (d + 1) (nI i) (kn_k1 i) ix iy nu ma rx ry tl it ri li := by
  intro d
  induction d with
  | zero =>
    intro i hi
    have e : i = 8 := by omega
    subst e
    exact br_t (by decide) h0
  | succ d ih =>
    intro i hi
    refine pk_le 8 i (fun z => absurd z (by omega)) (fun _ => And.intro (kn_v8 (by omega)) ?_)
    rw [nI_clamp (show i < 2 ^ 31 by omega)]
    exact nm_e (nm_r (nI_1 i) (ih (i + 1) (by omega)))

theorem yw_init {post : SY → Prop} {ix iy nu it le : Nat → Int32}
    (h0 : post (0, kn_k1 8, ix, iy, nu, it, le)) :
    ∀ d i, i + d = 8 → wY_init_55 post 0 (d + 1) (nI i) (kn_k1 i) ix iy nu it le := by
  intro d
  induction d with
  | zero =>
    intro i hi
    have e : i = 8 := by omega
    subst e
    exact br_t (by decide) h0
  | succ d ih =>
    intro i hi
    refine pk_le 8 i (fun z => absurd z (by omega)) (fun _ => And.intro (kn_v8 (by omega)) ?_)
    rw [nI_clamp (show i < 2 ^ 31 by omega)]
    exact nm_e (nm_r (nI_1 i) (ih (i + 1) (by omega)))

theorem i_vc0 : wpX_init (fun u => wpY_init (fun v => i_Rel 0 u v)) := by
  refine ⟨9, xw_init ?_ 8 0 rfl⟩
  refine xw_restart ?_
  intro w ma rx ry tl ri li L hz hQ hL
  refine ⟨9, yw_init ?_ 8 0 rfl⟩
  refine kn_in ?_
  refine kn_new (K := fun _ => 1) (A := fun _ => 0) (B := fun _ => 0) ?_ ?_ hz hQ hL
  · intro p _; exact ⟨show (1 : Nat) ≤ 7 by omega, show (0 : Nat) < 8 by omega, show (0 : Nat) < 8 by omega⟩
  · intro p hp
    exact ⟨kn_k1_1 8 p hp, rfl, rfl⟩

theorem i_vc_set {k : Nat} {u : SX} {v : SY} (I : i_Rel k u v) (hk : k + 5 ≤ 2560) (v1 : Int32) (v2 : Int32) (v3 : Int32) (v4 : Int32) : wpX_set (fun r u' => wpY_set (fun r' v' => r' = r ∧ i_Rel (k + 5) u' v') v v1 v2 v3 v4) u v1 v2 v3 v4 := by
  refine kn_el (P := fun u v => wpX_set (fun r u' => wpY_set (fun r' v' => r' = r ∧ i_Rel (k + 5) u' v') v v1 v2 v3 v4) u v1 v2 v3 v4) I ?_
  intro w h kd ix iy nu ma rx ry tl it ri li fk it2 le hR
  unfold wpX_set wpY_set
  dsimp only
  rcases kn_bdc v1 with z | ⟨p, hp, rfl⟩
  · exact xw_bad1 z (br_f (by decide) (yw_bad1 z (br_f (by decide) ⟨rfl, kn_in hR⟩)))
  · refine xw_bad0 hp (br_t rfl ?_)
    by_cases z0 : v2 < 0
    · exact br_t z0 (yw_bad0 hp (br_t rfl (br_t z0 ⟨rfl, kn_in hR⟩)))
    · refine br_f z0 ?_
      by_cases z7 : v2 ≤ 7
      · refine br_t z7 ?_
        rw [nI_clamp (show p < 2 ^ 31 by omega)]
        refine And.intro (kn_v8 hp) (nm_e (And.intro (kn_v8 hp) (nm_e (And.intro (kn_v8 hp) (nm_e (And.intro (kn_v8 hp) (nm_e ?_)))))))
        refine xw_restart ?_
        intro w' ma' rx' ry' tl' ri' li' L' hz hQ hL
        refine yw_bad0 hp (br_t rfl (br_f z0 (br_t z7 ?_)))
        refine And.intro (kn_v8 hp) (nm_e (And.intro (kn_v8 hp) (nm_e (And.intro (kn_v8 hp) (nm_e (And.intro (kn_v8 hp) (nm_e ⟨rfl, kn_in ?_⟩)))))))
        obtain ⟨K, A, B, g, G, hW, hN, hF, hX, hy⟩ := hR
        obtain ⟨a, ha, ea⟩ := nI_of2 (M := 7) (n := 7) (by decide) z0 z7
        obtain ⟨b, hb, eb⟩ := pk_andE v3 (m := 7) 3 (by decide)
        obtain ⟨c, hc, ec⟩ := pk_andE (v3 >>> ((3 : Int32) &&& 31)) (m := 7) 3 (by decide)
        exact kn_new (kn_Wu hW p ha hb hc) (kn_NBu hN p ea eb ec) hz hQ hL
      · exact br_f z7 (yw_bad0 hp (br_t rfl (br_f z0 (br_f z7 ⟨rfl, kn_in hR⟩))))

theorem i_vc_fire {k : Nat} {u : SX} {v : SY} (I : i_Rel k u v) (hk : k + 5 ≤ 2560) (v1 : Int32) (v2 : Int32) : wpX_fire (fun r u' => wpY_fire (fun r' => r' = r ∧ i_Rel (k + 5) u' v) v v1 v2) u v1 v2 := by
  refine kn_el (P := fun u v => wpX_fire (fun r u' => wpY_fire (fun r' => r' = r ∧ i_Rel (k + 5) u' v) v v1 v2) u v1 v2) I ?_
  intro w h kd ix iy nu ma rx ry tl it ri li fk it2 le hR
  unfold wpX_fire wpY_fire
  dsimp only
  rcases kn_bdc v1 with z | ⟨p, hp, rfl⟩
  · exact xw_bad1 z (br_f (by decide) (yw_bad1 z (br_f (by decide) ⟨rfl, kn_in hR⟩)))
  · refine xw_bad0 hp (br_t rfl ?_)
    obtain ⟨K, A, B, g, G, hW, hN, hF, ⟨c, L, hn, hP, hQ, hB⟩, hy⟩ := hR
    refine xw_run hW hN hF hP hQ hp (fun q hq _ hq2 => hB q hq hq2) v2 ?_
    intro w' ma' rx' ry' tl' it' ri' li' c' L' hP' hQ' hB' _
    exact yw_bad0 hp (br_t rfl ⟨rfl, kn_in ⟨K, A, B, g, G, hW, hN, hF, ⟨c', L', hn, hP', hQ', hB'⟩, hy⟩⟩)

theorem i_vc_exchange {k : Nat} {u : SX} {v : SY} (I : i_Rel k u v) (hk : k + 5 ≤ 2560) (v1 : Int32) (v2 : Int32) : wpX_exchange (fun r u' => wpY_exchange (fun r' v' => r' = r ∧ i_Rel (k + 5) u' v') v v1 v2) u v1 v2 := by
  refine kn_el (P := fun u v => wpX_exchange (fun r u' => wpY_exchange (fun r' v' => r' = r ∧ i_Rel (k + 5) u' v') v v1 v2) u v1 v2) I ?_
  intro w h kd ix iy nu ma rx ry tl it ri li fk it2 le hR
  unfold wpX_exchange wpY_exchange
  dsimp only
  rcases kn_bdc v1 with z | ⟨p, hp, rfl⟩
  · exact xw_bad1 z (br_f (by decide) (yw_bad1 z (br_f (by decide) ⟨rfl, kn_in hR⟩)))
  · refine xw_bad0 hp (br_t rfl ?_)
    rcases kn_bdc v2 with z | ⟨q, hq, rfl⟩
    · exact xw_bad1 z (br_f (by decide) (yw_bad0 hp (br_t rfl (yw_bad1 z (br_f (by decide) ⟨rfl, kn_in hR⟩)))))
    · refine xw_bad0 hq (br_t rfl ?_)
      rw [nI_clamp (show p < 2 ^ 31 by omega), nI_clamp (show q < 2 ^ 31 by omega)]
      have vp := kn_v8 hp
      have vq := kn_v8 hq
      refine And.intro vp (nm_e (And.intro vq (And.intro vp (nm_e (And.intro vq (nm_e (And.intro vp (nm_e (And.intro vq (And.intro vp (nm_e (And.intro vq (nm_e ?_)))))))))))))
      refine And.intro vp (nm_e (And.intro vq (And.intro vp (nm_e (And.intro vq (nm_e (And.intro vp (nm_e (And.intro vq (And.intro vp (nm_e (And.intro vq (nm_e ?_)))))))))))))
      refine xw_restart ?_
      intro w' ma' rx' ry' tl' ri' li' L' hz hQ hL
      refine yw_bad0 hp (br_t rfl (yw_bad0 hq (br_t rfl ?_)))
      refine And.intro vp (nm_e (And.intro vp (nm_e (And.intro vp (nm_e (And.intro vp (nm_e ?_)))))))
      refine And.intro vq (And.intro vp (nm_e (And.intro vq (And.intro vp (nm_e (And.intro vq (And.intro vp (nm_e (And.intro vq (And.intro vp (nm_e ?_)))))))))))
      refine And.intro vq (nm_e (And.intro vq (nm_e (And.intro vq (nm_e (And.intro vq (nm_e ⟨rfl, kn_in ?_⟩)))))))
      obtain ⟨K, A, B, g, G, hW, hN, hF, hX, hy⟩ := hR
      obtain ⟨p1, p2, p3⟩ := hN p hp
      obtain ⟨q1, q2, q3⟩ := hN q hq
      obtain ⟨a1, a2, a3⟩ := hW p hp
      obtain ⟨b1, b2, b3⟩ := hW q hq
      exact kn_new (kn_Wu (kn_Wu hW p b1 b2 b3) q a1 a2 a3) (kn_NBu (kn_NBu hN p q1 q2 q3) q p1 p2 p3) hz hQ hL

theorem i_vc_length {k : Nat} {u : SX} {v : SY} (I : i_Rel k u v) (hk : k + 5 ≤ 2560) (v1 : Int32) : wpX_length (fun r u' => wpY_length (fun r' v' => r' = r ∧ i_Rel (k + 5) u' v') v v1) u v1 := by
  refine kn_el (P := fun u v => wpX_length (fun r u' => wpY_length (fun r' v' => r' = r ∧ i_Rel (k + 5) u' v') v v1) u v1) I ?_
  intro w h kd ix iy nu ma rx ry tl it ri li fk it2 le hR
  unfold wpX_length wpY_length
  dsimp only
  rcases kn_bdc v1 with z | ⟨p, hp, rfl⟩
  · exact xw_bad1 z (br_f (by decide) (yw_bad1 z (br_f (by decide) ⟨rfl, kn_in hR⟩)))
  · refine xw_bad0 hp (br_t rfl ?_)
    obtain ⟨K, A, B, g, G, hW, hN, hF, hX, hy⟩ := hR
    refine xw_set2 hW hN hF hX ?_
    intro w h ma rx ry tl it ri li hX hx
    dsimp only
    rw [nI_clamp (show p < 2 ^ 31 by omega)]
    refine And.intro (kn_v8 hp) (yw_bad0 hp (br_t rfl (yw_workOut hW hN hF hy ?_)))
    intro it2 le hy
    dsimp only
    refine And.intro (kn_v8 hp) ⟨?_, kn_in ⟨K, A, B, g, G, hW, hN, hF, hX, Or.inr ⟨rfl, hy⟩⟩⟩
    rw [(hy p hp).1, (hx p hp).1]

theorem i_vc_item {k : Nat} {u : SX} {v : SY} (I : i_Rel k u v) (hk : k + 5 ≤ 2560) (v1 : Int32) (v2 : Int32) : wpX_item (fun r u' => wpY_item (fun r' v' => r' = r ∧ i_Rel (k + 5) u' v') v v1 v2) u v1 v2 := by
  refine kn_el (P := fun u v => wpX_item (fun r u' => wpY_item (fun r' v' => r' = r ∧ i_Rel (k + 5) u' v') v v1 v2) u v1 v2) I ?_
  intro w h kd ix iy nu ma rx ry tl it ri li fk it2 le hR
  unfold wpX_item wpY_item
  dsimp only
  rcases kn_bdc v1 with z | ⟨p, hp, rfl⟩
  · exact xw_bad1 z (br_f (by decide) (yw_bad1 z (br_f (by decide) ⟨rfl, kn_in hR⟩)))
  · refine xw_bad0 hp (br_t rfl ?_)
    obtain ⟨K, A, B, g, G, hW, hN, hF, hX, hy⟩ := hR
    have h40 := hF.1 p hp
    refine xw_set2 hW hN hF hX ?_
    intro w h ma rx ry tl it ri li hX hx
    dsimp only
    have fin : ∀ it2 le, kn_YF g G it2 le → i_Rel (k + 5) (w, h, kd, ix, iy, nu, ma, rx, ry, tl, it, ri, li) (1, kd, ix, iy, nu, it2, le) :=
      fun it2 le hy => kn_in ⟨K, A, B, g, G, hW, hN, hF, hX, Or.inr ⟨rfl, hy⟩⟩
    rw [nI_clamp (show p < 2 ^ 31 by omega)]
    by_cases z0 : v2 < 0
    · refine br_t z0 (yw_bad0 hp (br_t rfl (yw_workOut hW hN hF hy ?_)))
      intro it2 le hy
      dsimp only
      exact br_t z0 ⟨rfl, fin it2 le hy⟩
    · obtain ⟨j, hj, rfl⟩ := nI_of z0
      refine br_f z0 (And.intro (kn_v8 hp) ?_)
      rw [(hx p hp).1]
      refine pk_lt j (g p) (fun z => ?_) (fun z => ?_)
      · rw [kn_ix, nI_clamp (show p * 40 + j < 2 ^ 31 by omega)]
        refine And.intro (vp_in_nI (by omega) (by decide)) (yw_bad0 hp (br_t rfl (yw_workOut hW hN hF hy ?_)))
        intro it2 le hy
        dsimp only
        refine br_f z0 (And.intro (kn_v8 hp) ?_)
        rw [(hy p hp).1]
        refine br_t (nI_lt z (by omega)) (And.intro (vp_in_nI (by omega) (by decide)) ⟨?_, fin it2 le hy⟩)
        rw [(hy p hp).2 j z, (hx p hp).2 j z]
      · refine yw_bad0 hp (br_t rfl (yw_workOut hW hN hF hy ?_))
        intro it2 le hy
        dsimp only
        refine br_f z0 (And.intro (kn_v8 hp) ?_)
        rw [(hy p hp).1]
        exact br_f (nI_nlt z (by omega)) ⟨rfl, fin it2 le hy⟩

theorem i_vc_sum {k : Nat} {u : SX} {v : SY} (I : i_Rel k u v) (hk : k + 5 ≤ 2560) (v1 : Int32) : wpX_sum (fun r u' => wpY_sum (fun r' v' => r' = r ∧ i_Rel (k + 5) u' v') v v1) u v1 := by
  refine kn_el (P := fun u v => wpX_sum (fun r u' => wpY_sum (fun r' v' => r' = r ∧ i_Rel (k + 5) u' v') v v1) u v1) I ?_
  intro w h kd ix iy nu ma rx ry tl it ri li fk it2 le hR
  unfold wpX_sum wpY_sum
  dsimp only
  rcases kn_bdc v1 with z | ⟨p, hp, rfl⟩
  · exact xw_bad1 z (br_f (by decide) (yw_bad1 z (br_f (by decide) ⟨rfl, kn_in hR⟩)))
  · refine xw_bad0 hp (br_t rfl ?_)
    obtain ⟨K, A, B, g, G, hW, hN, hF, hX, hy⟩ := hR
    have h40 := hF.1 p hp
    refine xw_set2 hW hN hF hX ?_
    intro w h ma rx ry tl it ri li hX hx
    refine ⟨g p + 1, xw_sum hp h40 hx ?_ (g p) 0 (by omega)⟩
    refine yw_bad0 hp (br_t rfl (yw_workOut hW hN hF hy ?_))
    intro it2 le hy
    exact ⟨g p + 1, yw_sum hp h40 hy ⟨rfl, kn_in ⟨K, A, B, g, G, hW, hN, hF, hX, Or.inr ⟨rfl, hy⟩⟩⟩ (g p) 0 (by omega)⟩

theorem i_vc_find {k : Nat} {u : SX} {v : SY} (I : i_Rel k u v) (hk : k + 5 ≤ 2560) (v1 : Int32) (v2 : Int32) : wpX_find (fun r u' => wpY_find (fun r' v' => r' = r ∧ i_Rel (k + 5) u' v') v v1 v2) u v1 v2 := by
  refine kn_el (P := fun u v => wpX_find (fun r u' => wpY_find (fun r' v' => r' = r ∧ i_Rel (k + 5) u' v') v v1 v2) u v1 v2) I ?_
  intro w h kd ix iy nu ma rx ry tl it ri li fk it2 le hR
  unfold wpX_find wpY_find
  dsimp only
  rcases kn_bdc v1 with z | ⟨p, hp, rfl⟩
  · exact xw_bad1 z (br_f (by decide) (yw_bad1 z (br_f (by decide) ⟨rfl, kn_in hR⟩)))
  · refine xw_bad0 hp (br_t rfl ?_)
    obtain ⟨K, A, B, g, G, hW, hN, hF, hX, hy⟩ := hR
    have h40 := hF.1 p hp
    refine xw_set2 hW hN hF hX ?_
    intro w h ma rx ry tl it ri li hX hx
    refine ⟨g p + 1, xw_find hp h40 hx (g p) 0 (by omega) ?_⟩
    refine yw_bad0 hp (br_t rfl (yw_workOut hW hN hF hy ?_))
    intro it2 le hy
    exact ⟨g p + 1, yw_find hp h40 hy (g p) 0 (by omega) ⟨rfl, kn_in ⟨K, A, B, g, G, hW, hN, hF, hX, Or.inr ⟨rfl, hy⟩⟩⟩⟩

theorem i_vc_same {k : Nat} {u : SX} {v : SY} (I : i_Rel k u v) (hk : k + 5 ≤ 2560) (v1 : Int32) (v2 : Int32) : wpX_same (fun r u' => wpY_same (fun r' v' => r' = r ∧ i_Rel (k + 5) u' v') v v1 v2) u v1 v2 := by
  refine kn_el (P := fun u v => wpX_same (fun r u' => wpY_same (fun r' v' => r' = r ∧ i_Rel (k + 5) u' v') v v1 v2) u v1 v2) I ?_
  intro w h kd ix iy nu ma rx ry tl it ri li fk it2 le hR
  unfold wpX_same wpY_same
  dsimp only
  rcases kn_bdc v1 with z | ⟨p, hp, rfl⟩
  · exact xw_bad1 z (br_f (by decide) (yw_bad1 z (br_f (by decide) ⟨rfl, kn_in hR⟩)))
  · refine xw_bad0 hp (br_t rfl ?_)
    rcases kn_bdc v2 with z | ⟨q, hq, rfl⟩
    · exact xw_bad1 z (br_f (by decide) (yw_bad0 hp (br_t rfl (yw_bad1 z (br_f (by decide) ⟨rfl, kn_in hR⟩)))))
    · refine xw_bad0 hq (br_t rfl ?_)
      obtain ⟨K, A, B, g, G, hW, hN, hF, hX, hy⟩ := hR
      have h40 := hF.1 p hp
      have h41 := hF.1 q hq
      refine xw_set2 hW hN hF hX ?_
      intro w h ma rx ry tl it ri li hX hx
      dsimp only
      have fin : ∀ it2 le, kn_YF g G it2 le → i_Rel (k + 5) (w, h, kd, ix, iy, nu, ma, rx, ry, tl, it, ri, li) (1, kd, ix, iy, nu, it2, le) :=
        fun it2 le hy => kn_in ⟨K, A, B, g, G, hW, hN, hF, hX, Or.inr ⟨rfl, hy⟩⟩
      rw [nI_clamp (show p < 2 ^ 31 by omega), nI_clamp (show q < 2 ^ 31 by omega)]
      refine And.intro (kn_v8 hp) (And.intro (kn_v8 hq) ?_)
      rw [(hx p hp).1, (hx q hq).1]
      refine pk_eq (g p) (g q) (fun z => ?_) (fun z => ?_)
      · refine ⟨g p + 1, xw_same hp hq h40 z hx (g p) 0 (by omega) ?_⟩
        refine yw_bad0 hp (br_t rfl (yw_bad0 hq (br_t rfl (yw_workOut hW hN hF hy ?_))))
        intro it2 le hy
        dsimp only
        refine And.intro (kn_v8 hp) (And.intro (kn_v8 hq) ?_)
        rw [(hy p hp).1, (hy q hq).1]
        exact br_t (by rw [z]) ⟨g p + 1, yw_same hp hq h40 z hy (g p) 0 (by omega) ⟨rfl, fin it2 le hy⟩⟩
      · refine yw_bad0 hp (br_t rfl (yw_bad0 hq (br_t rfl (yw_workOut hW hN hF hy ?_))))
        intro it2 le hy
        dsimp only
        refine And.intro (kn_v8 hp) (And.intro (kn_v8 hq) ?_)
        rw [(hy p hp).1, (hy q hq).1]
        exact br_f (fun y => z ((nI_eq (by omega) (by omega)).1 y)) ⟨rfl, fin it2 le hy⟩

theorem i_vc_full {k : Nat} {u : SX} {v : SY} (I : i_Rel k u v) (hk : k + 5 ≤ 2560) : wpX_full (fun r u' => wpY_full (fun r' v' => r' = r ∧ i_Rel (k + 5) u' v') v) u := by
  refine kn_el (P := fun u v => wpX_full (fun r u' => wpY_full (fun r' v' => r' = r ∧ i_Rel (k + 5) u' v') v) u) I ?_
  intro w h kd ix iy nu ma rx ry tl it ri li fk it2 le hR
  unfold wpX_full wpY_full
  dsimp only
  obtain ⟨K, A, B, g, G, hW, hN, hF, hX, hy⟩ := hR
  refine xw_set2 hW hN hF hX ?_
  intro w h ma rx ry tl it ri li hX hx
  refine ⟨9, xw_full hF.1 hx ?_ 8 0 rfl⟩
  refine yw_workOut hW hN hF hy ?_
  intro it2 le hy
  exact ⟨9, yw_full hF.1 hy ⟨rfl, kn_in ⟨K, A, B, g, G, hW, hN, hF, hX, Or.inr ⟨rfl, hy⟩⟩⟩ 8 0 rfl⟩
end
