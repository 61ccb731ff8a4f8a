section
/-- a whole number as an int -/
def ib_z (z : Int) : Int32 := Int32.ofInt z
theorem ib_zT {z : Int} (h : -1000000 ≤ z) (h' : z ≤ 1000000) : (ib_z z).toInt = z := Int32.toInt_ofInt_of_le (by omega) (by omega)
theorem ib_zle {a b : Int} (h : -1000000 ≤ a) (h' : a ≤ 1000000) (g : -1000000 ≤ b) (g' : b ≤ 1000000) : ib_z a ≤ ib_z b ↔ a ≤ b := by
  rw [Int32.le_iff_toInt_le, ib_zT h h', ib_zT g g']
theorem ib_zlt {a b : Int} (h : -1000000 ≤ a) (h' : a ≤ 1000000) (g : -1000000 ≤ b) (g' : b ≤ 1000000) : ib_z a < ib_z b ↔ a < b := by
  rw [Int32.lt_iff_toInt_lt, ib_zT h h', ib_zT g g']
theorem ib_zeq {a b : Int} (h : -1000000 ≤ a) (h' : a ≤ 1000000) (g : -1000000 ≤ b) (g' : b ≤ 1000000) : ib_z a = ib_z b ↔ a = b := by
  rw [← Int32.toInt_inj, ib_zT h h', ib_zT g g']
theorem ib_zadd (a b : Int) : ib_z a + ib_z b = ib_z (a + b) := (Int32.ofInt_add a b).symm
theorem ib_zsub (a b : Int) : ib_z a - ib_z b = ib_z (a - b) := (Int32.ofInt_sub a b).symm
theorem ib_zmul (a b : Int) : ib_z a * ib_z b = ib_z (a * b) := (Int32.ofInt_mul a b).symm
theorem ib_zneg (a : Int) : -ib_z a = ib_z (-a) := (Int32.ofInt_neg a).symm
theorem ib_zn (n : Nat) : nI n = ib_z (n : Int) := Int32.ofInt_eq_ofNat.symm
/-- what floorDivide answers for a positive divisor -/
def ib_fd (x y : Int32) : Int32 := if x / y * y ≤ x then x / y else x / y - 1
theorem ib_fd0 : ∀ c, c < 5 → ∀ b, b < 101 → ib_fd (ib_z ((b : Nat) - 50)) (ib_z ((c : Nat) + 1)) = ib_z ((((b : Nat) : Int) - 50) / (((c : Nat) : Int) + 1)) := by decide +kernel
theorem ib_tp0 : ∀ c, c < 5 → ∀ b, b < 50 → ib_z ((b : Nat) : Int) / ib_z ((c : Nat) + 1) = ib_z (((b : Nat) : Int) / (((c : Nat) : Int) + 1)) := by decide +kernel
theorem ib_tn0 : ∀ c, c < 5 → ∀ b, b < 51 → 0 - ((ib_z ((c : Nat) + 1) - 1 - ib_z (-((b : Nat) : Int))) / ib_z ((c : Nat) + 1)) = ib_z ((-((b : Nat) : Int)) / (((c : Nat) : Int) + 1)) := by decide +kernel
theorem ib_fdz {b c : Int} (h1 : 1 ≤ c) (h2 : c ≤ 5) (h3 : -50 ≤ b) (h4 : b ≤ 50) : ib_fd (ib_z b) (ib_z c) = ib_z (b / c) := by
  have h := ib_fd0 (c - 1).toNat (by omega) (b + 50).toNat (by omega)
  have e1 : (((c - 1).toNat : Nat) : Int) + 1 = c := by omega
  have e2 : (((b + 50).toNat : Nat) : Int) - 50 = b := by omega
  rw [e1, e2] at h
  exact h
theorem ib_tpz {b c : Int} (h1 : 1 ≤ c) (h2 : c ≤ 5) (h3 : 0 ≤ b) (h4 : b < 50) : ib_z b / ib_z c = ib_z (b / c) := by
  have h := ib_tp0 (c - 1).toNat (by omega) b.toNat (by omega)
  have e1 : (((c - 1).toNat : Nat) : Int) + 1 = c := by omega
  have e2 : ((b.toNat : Nat) : Int) = b := by omega
  rw [e1, e2] at h
  exact h
theorem ib_tnz {b c : Int} (h1 : 1 ≤ c) (h2 : c ≤ 5) (h3 : -50 ≤ b) (h4 : b ≤ 0) : 0 - ((ib_z c - 1 - ib_z b) / ib_z c) = ib_z (b / c) := by
  have h := ib_tn0 (c - 1).toNat (by omega) (-b).toNat (by omega)
  have e1 : (((c - 1).toNat : Nat) : Int) + 1 = c := by omega
  have e2 : -(((-b).toNat : Nat) : Int) = b := by omega
  rw [e1, e2] at h
  exact h
/-- the floor, and what is below it -/
theorem ib_fl {b c x : Int} (h1 : 1 ≤ c) : c * x ≤ b ↔ x ≤ b / c := by
  rw [Int.le_ediv_iff_mul_le (by omega), Int.mul_comm]
theorem ib_flb {b c : Int} (h1 : 1 ≤ c) (h2 : c ≤ 5) (h3 : -50 ≤ b) (h4 : b ≤ 50) : -50 ≤ b / c ∧ b / c ≤ 50 := by
  have hc : c = 1 ∨ c = 2 ∨ c = 3 ∨ c = 4 ∨ c = 5 := by omega
  rcases hc with rfl | rfl | rfl | rfl | rfl <;> omega
theorem ib_mb {c x : Int} (h1 : 1 ≤ c) (h2 : c ≤ 5) (h3 : -50 ≤ x) (h4 : x ≤ 50) : -1000 ≤ c * x ∧ c * x ≤ 1000 := by
  have hc : c = 1 ∨ c = 2 ∨ c = 3 ∨ c = 4 ∨ c = 5 := by omega
  rcases hc with rfl | rfl | rfl | rfl | rfl <;> omega
/-- the same two rows over ints -/
theorem ib_flz {b c x : Int} (h1 : 1 ≤ c) (h2 : c ≤ 5) (h3 : -50 ≤ b) (h4 : b ≤ 50) (h5 : -50 ≤ x) (h6 : x ≤ 50) : ib_z c * ib_z x ≤ ib_z b ↔ x ≤ b / c := by
  have hm := ib_mb h1 h2 h5 h6
  rw [ib_zmul, ib_zle (by omega) (by omega) (by omega) (by omega)]
  exact ib_fl h1
theorem ib_s1 {x : Int} (h : -1000 ≤ x) (h' : x ≤ 1000) : ib_z x < ib_z x + 1 := by
  rw [show (1 : Int32) = ib_z 1 from rfl, ib_zadd, ib_zlt (by omega) (by omega) (by omega) (by omega)]
  omega
theorem ib_updm {a : Nat → Int32} {k : Nat} {x : Int32} (h : a 0 < a 0 + 1) (h' : x < x + 1) : upd a k x 0 < upd a k x 0 + 1 := by
  by_cases e : 0 = k
  · rw [← e, pk_us]
    exact h'
  · rw [pk_un e]
    exact h
end
section
theorem ib_floor {post : Int32 → Prop} {u : St0} {x y : Int32} (hy : ¬ y ≤ 0) (h : post (ib_fd x y)) : wpX_floorDivide post u x y := by
  have hn : ¬ y = 0 := fun z => hy (by rw [z]; decide)
  unfold ib_fd at h
  refine br_f hy ⟨hn, ?_⟩
  by_cases z : x / y * y ≤ x
  · rw [if_pos z] at h
    exact br_t z h
  · rw [if_neg z] at h
    exact br_f z h
/-- one term at its least: the factor, the low end, the high end -/
def ib_lt (f lo hi : Int32) : Int32 := if f ≤ 0 then f * hi else f * lo
theorem ib_lt0 (lo hi : Int32) : ib_lt 0 lo hi = 0 := by
  unfold ib_lt
  rw [if_pos (by decide)]
  exact Int32.zero_mul
theorem ib_ltP {f : Int32} (h : ¬ f ≤ 0) (lo hi : Int32) : ib_lt f lo hi = f * lo := if_neg h
theorem ib_ltN {f : Int32} (h : f ≤ 0) (lo hi : Int32) : ib_lt f lo hi = f * hi := if_pos h
theorem ib_ix (i j : Nat) : nI i * 3 + nI j = nI (i * 3 + j) := by
  rw [show (3 : Int32) = nI 3 from rfl, pk_mul, nI_add]
theorem ib_leastTerm {post : Int32 → Prop} {lim act dep : Int32} {a1 a2 a3 a4 a5 a6 a7 a8 a9 a10 a11 : Nat → Int32} {i j : Nat} (hi : i < 8) (hj : j < 3) (h : post (ib_lt (a3 (i * 3 + j)) (a9 j) (a10 j))) : wpX_leastTerm post (lim, act, dep, a1, a2, a3, a4, a5, a6, a7, a8, a9, a10, a11) (nI i) (nI j) := by
  unfold wpX_leastTerm
  dsimp only
  rw [ib_ix, nI_clamp (show i * 3 + j < 2 ^ 31 by omega), nI_clamp (show j < 2 ^ 31 by omega)]
  refine ⟨pk_in (i * 3 + j) 24 (by omega), nm_e ?_⟩
  unfold ib_lt at h
  by_cases z : a3 (i * 3 + j) ≤ 0
  · rw [if_pos z] at h
    exact br_t z ⟨pk_in j 3 hj, h⟩
  · rw [if_neg z] at h
    exact br_f z ⟨pk_in j 3 hj, h⟩
theorem ib_greatTerm {post : Int32 → Prop} {lim act dep : Int32} {a1 a2 a3 a4 a5 a6 a7 a8 a9 a10 a11 : Nat → Int32} {i j : Nat} (hi : i < 8) (hj : j < 3) (h : post (ib_lt (a3 (i * 3 + j)) (a10 j) (a9 j))) : wpX_greatestTerm post (lim, act, dep, a1, a2, a3, a4, a5, a6, a7, a8, a9, a10, a11) (nI i) (nI j) := by
  unfold wpX_greatestTerm
  dsimp only
  rw [ib_ix, nI_clamp (show i * 3 + j < 2 ^ 31 by omega), nI_clamp (show j < 2 ^ 31 by omega)]
  refine ⟨pk_in (i * 3 + j) 24 (by omega), nm_e ?_⟩
  unfold ib_lt at h
  by_cases z : a3 (i * 3 + j) ≤ 0
  · rw [if_pos z] at h
    exact br_t z ⟨pk_in j 3 hj, h⟩
  · rw [if_neg z] at h
    exact br_f z ⟨pk_in j 3 hj, h⟩
/-- the sum of the three terms of limit i -/
def ib_sm (i : Nat) (a3 lo hi : Nat → Int32) : Int32 := (ib_lt (a3 (i * 3 + 0)) (lo 0) (hi 0) + ib_lt (a3 (i * 3 + 1)) (lo 1) (hi 1)) + ib_lt (a3 (i * 3 + 2)) (lo 2) (hi 2)
/-- limit i has the factor g at variable k, 0 elsewhere, and the bound b -/
def ib_L (k i : Nat) (g b : Int32) (a3 a4 : Nat → Int32) : Prop := (∀ j, j < 3 → a3 (i * 3 + j) = if j = k then g else 0) ∧ a4 i = b
theorem ib_smL {k i : Nat} {g b : Int32} {a3 a4 : Nat → Int32} (hk : k < 3) (h : ib_L k i g b a3 a4) (lo hi : Nat → Int32) : ib_sm i a3 lo hi = ib_lt g (lo k) (hi k) := by
  unfold ib_sm
  rw [h.1 0 (by omega), h.1 1 (by omega), h.1 2 (by omega)]
  rcases (show k = 0 ∨ k = 1 ∨ k = 2 by omega) with rfl | rfl | rfl
  · simp [ib_lt0]
  · simp [ib_lt0]
  · simp [ib_lt0]
theorem ib_leastSum {post : Int32 → Prop} {lim act dep : Int32} {a1 a2 a3 a4 a5 a6 a7 a8 a9 a10 a11 : Nat → Int32} {i k : Nat} {g b : Int32} (hi : i < 8) (hk : k < 3) (hL : ib_L k i g b a3 a4) (h : post (ib_lt g (a9 k) (a10 k))) : wpX_leastSum post (lim, act, dep, a1, a2, a3, a4, a5, a6, a7, a8, a9, a10, a11) (nI i) := by
  rw [← ib_smL hk hL a9 a10] at h
  unfold wpX_leastSum
  dsimp only
  refine ib_leastTerm hi (j := 0) (by omega) ?_
  refine ib_leastTerm hi (j := 1) (by omega) ?_
  refine ib_leastTerm hi (j := 2) (by omega) ?_
  exact h
theorem ib_greatSum {post : Int32 → Prop} {lim act dep : Int32} {a1 a2 a3 a4 a5 a6 a7 a8 a9 a10 a11 : Nat → Int32} {i k : Nat} {g b : Int32} (hi : i < 8) (hk : k < 3) (hL : ib_L k i g b a3 a4) (h : post (ib_lt g (a10 k) (a9 k))) : wpX_greatestSum post (lim, act, dep, a1, a2, a3, a4, a5, a6, a7, a8, a9, a10, a11) (nI i) := by
  rw [← ib_smL hk hL a10 a9] at h
  unfold wpX_greatestSum
  dsimp only
  refine ib_greatTerm hi (j := 0) (by omega) ?_
  refine ib_greatTerm hi (j := 1) (by omega) ?_
  refine ib_greatTerm hi (j := 2) (by omega) ?_
  exact h
/-- the box is empty -/
def ib_E (lo hi : Nat → Int32) : Prop := ∃ j, j < 3 ∧ hi j < lo j
theorem ib_empty {post : Int32 → Prop} {lim act dep : Int32} {a1 a2 a3 a4 a5 a6 a7 a8 a9 a10 a11 : Nat → Int32} (ht : ib_E a9 a10 → post 1) (hf : ¬ ib_E a9 a10 → post 0) : wpX_empty post (lim, act, dep, a1, a2, a3, a4, a5, a6, a7, a8, a9, a10, a11) := by
  unfold wpX_empty
  dsimp only
  refine br_c (fun z => ht ⟨0, by omega, z⟩) (fun z0 => br_c (fun z => ht ⟨1, by omega, z⟩) (fun z1 => br_c (fun z2 => hf ?_) (fun z => ht ⟨2, by omega, Int32.not_le.mp z⟩)))
  rintro ⟨j, hj, hz⟩
  rcases (show j = 0 ∨ j = 1 ∨ j = 2 by omega) with rfl | rfl | rfl
  · exact z0 hz
  · exact z1 hz
  · exact absurd z2 (Int32.not_le.mpr hz)
theorem ib_narrow0 {post : Int32 → St2 → Prop} {lim act dep : Int32} {a1 a2 a3 a4 a5 a6 a7 a8 a9 a10 a11 : Nat → Int32} {i j k : Nat} {g b : Int32} (hi : i < 8) (hj : j < 3) (hL : ib_L k i g b a3 a4) (hn : j ≠ k) (h : post 0 (lim, act, dep, a1, a2, a3, a4, a5, a6, a7, a8, a9, a10, a11)) : wpX_narrow post (lim, act, dep, a1, a2, a3, a4, a5, a6, a7, a8, a9, a10, a11) (nI i) (nI j) := by
  unfold wpX_narrow
  dsimp only
  rw [ib_ix, nI_clamp (show i * 3 + j < 2 ^ 31 by omega)]
  refine ⟨pk_in (i * 3 + j) 24 (by omega), nm_e (br_t ?_ h)⟩
  rw [hL.1 j hj, if_neg hn]
theorem ib_narrowP {post : Int32 → St2 → Prop} {lim act dep : Int32} {a1 a2 a3 a4 a5 a6 a7 a8 a9 a10 a11 : Nat → Int32} {i k : Nat} {g b : Int32} (hi : i < 8) (hk : k < 3) (hL : ib_L k i g b a3 a4) (hg : ¬ g ≤ 0)
    (h1 : ib_fd b g < a10 k → post 1 (lim, act, dep, a1, a2, a3, a4, a5, a6, a7, a8, a9, (upd a10 k (ib_fd b g)), a11)) (h0 : ¬ ib_fd b g < a10 k → post 0 (lim, act, dep, a1, a2, a3, a4, a5, a6, a7, a8, a9, a10, a11)) : wpX_narrow post (lim, act, dep, a1, a2, a3, a4, a5, a6, a7, a8, a9, a10, a11) (nI i) (nI k) := by
  have e : a3 (i * 3 + k) = g := by rw [hL.1 k hk, if_pos rfl]
  have gn : ¬ g = 0 := fun z => hg (by rw [z]; decide)
  unfold wpX_narrow
  dsimp only
  rw [ib_ix, nI_clamp (show i * 3 + k < 2 ^ 31 by omega), nI_clamp (show k < 2 ^ 31 by omega), nI_clamp (show i < 2 ^ 31 by omega)]
  refine ⟨pk_in (i * 3 + k) 24 (by omega), nm_r e (br_f gn ⟨pk_in i 8 hi, ?_⟩)⟩
  refine ib_leastSum hi hk hL ?_
  refine ib_leastTerm hi hk ?_
  rw [e]
  refine nm_r (e' := b) ?_ (br_f hg (ib_floor hg ⟨pk_in k 3 hk, br_c (fun z => ⟨pk_in k 3 hk, nm_e (h1 z)⟩) h0⟩))
  rw [hL.2, Int32.sub_self, Int32.sub_zero]
theorem ib_narrowN {post : Int32 → St2 → Prop} {lim act dep : Int32} {a1 a2 a3 a4 a5 a6 a7 a8 a9 a10 a11 : Nat → Int32} {i k : Nat} {g b : Int32} (hi : i < 8) (hk : k < 3) (hL : ib_L k i g b a3 a4) (hg : g ≤ 0) (hg' : ¬ -g ≤ 0)
    (h1 : a9 k < -ib_fd b (-g) → post 1 (lim, act, dep, a1, a2, a3, a4, a5, a6, a7, a8, (upd a9 k (-ib_fd b (-g))), a10, a11)) (h0 : ¬ a9 k < -ib_fd b (-g) → post 0 (lim, act, dep, a1, a2, a3, a4, a5, a6, a7, a8, a9, a10, a11)) : wpX_narrow post (lim, act, dep, a1, a2, a3, a4, a5, a6, a7, a8, a9, a10, a11) (nI i) (nI k) := by
  have e : a3 (i * 3 + k) = g := by rw [hL.1 k hk, if_pos rfl]
  have gn : ¬ g = 0 := fun z => hg' (by rw [z]; decide)
  unfold wpX_narrow
  dsimp only
  rw [ib_ix, nI_clamp (show i * 3 + k < 2 ^ 31 by omega), nI_clamp (show k < 2 ^ 31 by omega), nI_clamp (show i < 2 ^ 31 by omega)]
  refine ⟨pk_in (i * 3 + k) 24 (by omega), nm_r e (br_f gn ⟨pk_in i 8 hi, ?_⟩)⟩
  refine ib_leastSum hi hk hL ?_
  refine ib_leastTerm hi hk ?_
  rw [e]
  refine nm_r (e' := b) ?_ (br_t hg (ib_floor hg' (nm_e ⟨pk_in k 3 hk, br_c (fun z => ⟨pk_in k 3 hk, nm_e (h1 z)⟩) h0⟩)))
  rw [hL.2, Int32.sub_self, Int32.sub_zero]
end
section
theorem ib_nb_z {post : Int32 → St2 → Prop} {lim act dep : Int32} {a1 a2 a3 a4 a5 a6 a7 a8 a9 a10 a11 : Nat → Int32} {x1 x2 : Int32} {n v : Nat} (hx : x2 = 0 ∨ x2 = 1) (h : wX_narrowBy_37 post x1 n x2 (nI (v + 1)) lim act dep a1 a2 a3 a4 a5 a6 a7 a8 a9 a10 a11) : wX_narrowBy_64 post (wX_narrowBy_37 post x1 n) x1 x2 (nI v) lim act dep a1 a2 a3 a4 a5 a6 a7 a8 a9 a10 a11 := by
  unfold wX_narrowBy_64 wX_narrowBy_65
  rcases hx with rfl | rfl
  · exact br_t rfl (br_t rfl (nm_r (nI_1 v) h))
  · exact br_f (by decide) (nm_r (nI_1 v) h)
theorem ib_nb_o {post : Int32 → St2 → Prop} {lim act dep : Int32} {a1 a2 a3 a4 a5 a6 a7 a8 a9 a10 a11 : Nat → Int32} {x1 x2 : Int32} {n v : Nat} (h : wX_narrowBy_37 post x1 n 1 (nI (v + 1)) lim act dep a1 a2 a3 a4 a5 a6 a7 a8 a9 a10 a11) : wX_narrowBy_65 post (wX_narrowBy_37 post x1 n) x1 x2 (nI v) 1 lim act dep a1 a2 a3 a4 a5 a6 a7 a8 a9 a10 a11 := by
  unfold wX_narrowBy_65
  exact br_c (fun _ => br_f (by decide) (nm_r (nI_1 v) h)) (fun _ => nm_r (nI_1 v) h)
theorem ib_nb_exit {post : Int32 → St2 → Prop} {lim act dep : Int32} {a1 a2 a3 a4 a5 a6 a7 a8 a9 a10 a11 : Nat → Int32} {x1 x2 : Int32} {n : Nat} (hx : x2 = 0 ∨ x2 = 1) (h : post x2 (lim, act, dep, a1, a2, a3, a4, a5, a6, a7, a8, a9, a10, a11)) : wX_narrowBy_37 post x1 (n + 1) x2 (nI 3) lim act dep a1 a2 a3 a4 a5 a6 a7 a8 a9 a10 a11 :=
  pk_le 3 3 (fun _ => ⟨by rcases hx with rfl | rfl <;> rfl, h⟩) (fun z => absurd z (by omega))
theorem ib_nb_skip {post : Int32 → St2 → Prop} {lim act dep : Int32} {a1 a2 a3 a4 a5 a6 a7 a8 a9 a10 a11 : Nat → Int32} {i k : Nat} {g b x2 : Int32} {n : Nat} (v : Nat) (hi : i < 8) (hL : ib_L k i g b a3 a4) (hv : v < 3) (hx : x2 = 0 ∨ x2 = 1) (hn : v ≠ k ∨ ib_E a9 a10) (h : wX_narrowBy_37 post (nI i) n x2 (nI (v + 1)) lim act dep a1 a2 a3 a4 a5 a6 a7 a8 a9 a10 a11) : wX_narrowBy_37 post (nI i) (n + 1) x2 (nI v) lim act dep a1 a2 a3 a4 a5 a6 a7 a8 a9 a10 a11 :=
  pk_le 3 v (fun z => absurd z (by omega)) (fun _ => ib_empty (fun _ => br_f (by decide) (ib_nb_z hx h)) (fun hE => br_t rfl (ib_narrow0 hi hv hL (hn.resolve_right hE) (br_t rfl (ib_nb_z hx h)))))
theorem ib_nb_act {post : Int32 → St2 → Prop} {lim act dep : Int32} {a1 a2 a3 a4 a5 a6 a7 a8 a9 a10 a11 : Nat → Int32} {b9 b10 : Nat → Int32} {i k : Nat} {c : Prop} {n : Nat} (hk : k < 3) (hE : ¬ ib_E a9 a10)
    (hN : ∀ ψ : Int32 → St2 → Prop, (c → ψ 1 (lim, act, dep, a1, a2, a3, a4, a5, a6, a7, a8, b9, b10, a11)) → (¬ c → ψ 0 (lim, act, dep, a1, a2, a3, a4, a5, a6, a7, a8, a9, a10, a11)) → wpX_narrow ψ (lim, act, dep, a1, a2, a3, a4, a5, a6, a7, a8, a9, a10, a11) (nI i) (nI k))
    (h1 : c → wX_narrowBy_37 post (nI i) n 1 (nI (k + 1)) lim act dep a1 a2 a3 a4 a5 a6 a7 a8 b9 b10 a11) (h0 : ¬ c → wX_narrowBy_37 post (nI i) n 0 (nI (k + 1)) lim act dep a1 a2 a3 a4 a5 a6 a7 a8 a9 a10 a11) : wX_narrowBy_37 post (nI i) (n + 1) 0 (nI k) lim act dep a1 a2 a3 a4 a5 a6 a7 a8 a9 a10 a11 :=
  pk_le 3 k (fun z => absurd z (by omega)) (fun _ => ib_empty (fun z => absurd z hE) (fun _ => br_t rfl (hN _ (fun z => br_f (by decide) (ib_nb_o (h1 z))) (fun z => br_t rfl (ib_nb_z (Or.inl rfl) (h0 z))))))
theorem ib_nb_run {post : Int32 → St2 → Prop} {lim act dep : Int32} {a1 a2 a3 a4 a5 a6 a7 a8 a9 a10 a11 : Nat → Int32} {b9 b10 : Nat → Int32} {i k : Nat} {g b : Int32} {c : Prop} (hi : i < 8) (hk : k < 3) (hL : ib_L k i g b a3 a4) (hE : ¬ ib_E a9 a10)
    (hN : ∀ ψ : Int32 → St2 → Prop, (c → ψ 1 (lim, act, dep, a1, a2, a3, a4, a5, a6, a7, a8, b9, b10, a11)) → (¬ c → ψ 0 (lim, act, dep, a1, a2, a3, a4, a5, a6, a7, a8, a9, a10, a11)) → wpX_narrow ψ (lim, act, dep, a1, a2, a3, a4, a5, a6, a7, a8, a9, a10, a11) (nI i) (nI k))
    (h1 : c → post 1 (lim, act, dep, a1, a2, a3, a4, a5, a6, a7, a8, b9, b10, a11)) (h0 : ¬ c → post 0 (lim, act, dep, a1, a2, a3, a4, a5, a6, a7, a8, a9, a10, a11)) : ∃ fu, wX_narrowBy_37 post (nI i) fu 0 0 lim act dep a1 a2 a3 a4 a5 a6 a7 a8 a9 a10 a11 := by
  rcases (show k = 0 ∨ k = 1 ∨ k = 2 by omega) with rfl | rfl | rfl
  · refine ⟨4, ib_nb_act (k := 0) hk hE hN (fun z => ?_) (fun z => ?_)⟩
    · exact ib_nb_skip 1 hi hL (by omega) (Or.inr rfl) (Or.inl (by omega)) (ib_nb_skip 2 hi hL (by omega) (Or.inr rfl) (Or.inl (by omega)) (ib_nb_exit (Or.inr rfl) (h1 z)))
    · exact ib_nb_skip 1 hi hL (by omega) (Or.inl rfl) (Or.inl (by omega)) (ib_nb_skip 2 hi hL (by omega) (Or.inl rfl) (Or.inl (by omega)) (ib_nb_exit (Or.inl rfl) (h0 z)))
  · refine ⟨4, ib_nb_skip 0 hi hL (by omega) (Or.inl rfl) (Or.inl (by omega)) (ib_nb_act (k := 1) hk hE hN (fun z => ?_) (fun z => ?_))⟩
    · exact ib_nb_skip 2 hi hL (by omega) (Or.inr rfl) (Or.inl (by omega)) (ib_nb_exit (Or.inr rfl) (h1 z))
    · exact ib_nb_skip 2 hi hL (by omega) (Or.inl rfl) (Or.inl (by omega)) (ib_nb_exit (Or.inl rfl) (h0 z))
  · refine ⟨4, ib_nb_skip 0 hi hL (by omega) (Or.inl rfl) (Or.inl (by omega)) (ib_nb_skip 1 hi hL (by omega) (Or.inl rfl) (Or.inl (by omega)) (ib_nb_act (k := 2) hk hE hN (fun z => ?_) (fun z => ?_)))⟩
    · exact ib_nb_exit (Or.inr rfl) (h1 z)
    · exact ib_nb_exit (Or.inl rfl) (h0 z)
theorem ib_nb_none {post : Int32 → St2 → Prop} {lim act dep : Int32} {a1 a2 a3 a4 a5 a6 a7 a8 a9 a10 a11 : Nat → Int32} {i k : Nat} {g b : Int32} (hi : i < 8) (hL : ib_L k i g b a3 a4) (hE : ib_E a9 a10) (h : post 0 (lim, act, dep, a1, a2, a3, a4, a5, a6, a7, a8, a9, a10, a11)) : ∃ fu, wX_narrowBy_37 post (nI i) fu 0 0 lim act dep a1 a2 a3 a4 a5 a6 a7 a8 a9 a10 a11 :=
  ⟨4, ib_nb_skip 0 hi hL (by omega) (Or.inl rfl) (Or.inr hE) (ib_nb_skip 1 hi hL (by omega) (Or.inl rfl) (Or.inr hE) (ib_nb_skip 2 hi hL (by omega) (Or.inl rfl) (Or.inr hE) (ib_nb_exit (Or.inl rfl) h)))⟩
theorem ib_Eu {a9 a10 : Nat → Int32} (hm : a10 0 < a10 0 + 1) : ib_E (upd a9 0 (a10 0 + 1)) a10 :=
  ⟨0, by omega, by rw [pk_us]; exact hm⟩
/-- narrowBy, in the terms of what the least sum is and of what narrow does -/
theorem ib_nb {post : Int32 → St2 → Prop} {lim act dep : Int32} {a1 a2 a3 a4 a5 a6 a7 a8 a9 a10 a11 : Nat → Int32} {b9 b10 : Nat → Int32} {i k : Nat} {g b : Int32} {c : Prop} (hi : i < 8) (hk : k < 3) (hL : ib_L k i g b a3 a4) (hm : a10 0 < a10 0 + 1)
    (hN : ∀ ψ : Int32 → St2 → Prop, (c → ψ 1 (lim, act, dep, a1, a2, a3, a4, a5, a6, a7, a8, b9, b10, a11)) → (¬ c → ψ 0 (lim, act, dep, a1, a2, a3, a4, a5, a6, a7, a8, a9, a10, a11)) → wpX_narrow ψ (lim, act, dep, a1, a2, a3, a4, a5, a6, a7, a8, a9, a10, a11) (nI i) (nI k))
    (H0 : ib_E a9 a10 → ∀ (r : Int32) (a : Nat → Int32), ib_E a a10 → post r (lim, act, dep, a1, a2, a3, a4, a5, a6, a7, a8, a, a10, a11))
    (H1 : ¬ ib_E a9 a10 → ¬ ib_lt g (a9 k) (a10 k) ≤ b → post 1 (lim, act, dep, a1, a2, a3, a4, a5, a6, a7, a8, (upd a9 0 (a10 0 + 1)), a10, a11))
    (H2 : ¬ ib_E a9 a10 → ib_lt g (a9 k) (a10 k) ≤ b → c → post 1 (lim, act, dep, a1, a2, a3, a4, a5, a6, a7, a8, b9, b10, a11))
    (H3 : ¬ ib_E a9 a10 → ib_lt g (a9 k) (a10 k) ≤ b → ¬ c → post 0 (lim, act, dep, a1, a2, a3, a4, a5, a6, a7, a8, a9, a10, a11)) : wpX_narrowBy post (lim, act, dep, a1, a2, a3, a4, a5, a6, a7, a8, a9, a10, a11) (nI i) := by
  unfold wpX_narrowBy
  dsimp only
  refine ib_leastSum hi hk hL ?_
  rw [nI_clamp (show i < 2 ^ 31 by omega), hL.2]
  refine ⟨pk_in i 8 hi, br_c (fun z => ?_) (fun z => nm_e ?_)⟩
  · by_cases hE : ib_E a9 a10
    · exact ib_nb_none hi hL hE (H0 hE 0 a9 hE)
    · exact ib_nb_run hi hk hL hE hN (H2 hE z) (H3 hE z)
  · by_cases hE : ib_E a9 a10
    · exact H0 hE 1 _ (ib_Eu hm)
    · exact H1 hE z
/-- a positive factor: the high end may come down to the floor -/
theorem ib_nbP {post : Int32 → St2 → Prop} {lim act dep : Int32} {a1 a2 a3 a4 a5 a6 a7 a8 a9 a10 a11 : Nat → Int32} {i k : Nat} {g b : Int32} (hi : i < 8) (hk : k < 3) (hL : ib_L k i g b a3 a4) (hg : ¬ g ≤ 0) (hm : a10 0 < a10 0 + 1)
    (H0 : ib_E a9 a10 → ∀ (r : Int32) (a : Nat → Int32), ib_E a a10 → post r (lim, act, dep, a1, a2, a3, a4, a5, a6, a7, a8, a, a10, a11))
    (H1 : ¬ ib_E a9 a10 → ¬ g * a9 k ≤ b → post 1 (lim, act, dep, a1, a2, a3, a4, a5, a6, a7, a8, (upd a9 0 (a10 0 + 1)), a10, a11))
    (H2 : ¬ ib_E a9 a10 → g * a9 k ≤ b → ib_fd b g < a10 k → post 1 (lim, act, dep, a1, a2, a3, a4, a5, a6, a7, a8, a9, (upd a10 k (ib_fd b g)), a11))
    (H3 : ¬ ib_E a9 a10 → g * a9 k ≤ b → ¬ ib_fd b g < a10 k → post 0 (lim, act, dep, a1, a2, a3, a4, a5, a6, a7, a8, a9, a10, a11)) : wpX_narrowBy post (lim, act, dep, a1, a2, a3, a4, a5, a6, a7, a8, a9, a10, a11) (nI i) := by
  refine ib_nb (b9 := a9) (b10 := upd a10 k (ib_fd b g)) (c := ib_fd b g < a10 k) hi hk hL hm (fun ψ h1 h0 => ib_narrowP hi hk hL hg h1 h0) H0 ?_ ?_ ?_
  · rw [ib_ltP hg]
    exact H1
  · rw [ib_ltP hg]
    exact H2
  · rw [ib_ltP hg]
    exact H3
/-- a negative factor: the low end may come up -/
theorem ib_nbN {post : Int32 → St2 → Prop} {lim act dep : Int32} {a1 a2 a3 a4 a5 a6 a7 a8 a9 a10 a11 : Nat → Int32} {i k : Nat} {g b : Int32} (hi : i < 8) (hk : k < 3) (hL : ib_L k i g b a3 a4) (hg : g ≤ 0) (hg' : ¬ -g ≤ 0) (hm : a10 0 < a10 0 + 1)
    (H0 : ib_E a9 a10 → ∀ (r : Int32) (a : Nat → Int32), ib_E a a10 → post r (lim, act, dep, a1, a2, a3, a4, a5, a6, a7, a8, a, a10, a11))
    (H1 : ¬ ib_E a9 a10 → ¬ g * a10 k ≤ b → post 1 (lim, act, dep, a1, a2, a3, a4, a5, a6, a7, a8, (upd a9 0 (a10 0 + 1)), a10, a11))
    (H2 : ¬ ib_E a9 a10 → g * a10 k ≤ b → a9 k < -ib_fd b (-g) → post 1 (lim, act, dep, a1, a2, a3, a4, a5, a6, a7, a8, (upd a9 k (-ib_fd b (-g))), a10, a11))
    (H3 : ¬ ib_E a9 a10 → g * a10 k ≤ b → ¬ a9 k < -ib_fd b (-g) → post 0 (lim, act, dep, a1, a2, a3, a4, a5, a6, a7, a8, a9, a10, a11)) : wpX_narrowBy post (lim, act, dep, a1, a2, a3, a4, a5, a6, a7, a8, a9, a10, a11) (nI i) := by
  refine ib_nb (b9 := upd a9 k (-ib_fd b (-g))) (b10 := a10) (c := a9 k < -ib_fd b (-g)) hi hk hL hm (fun ψ h1 h0 => ib_narrowN hi hk hL hg hg' h1 h0) H0 ?_ ?_ ?_
  · rw [ib_ltN hg]
    exact H1
  · rw [ib_ltN hg]
    exact H2
  · rw [ib_ltN hg]
    exact H3
end
section
theorem ib_ct {post : Int32 → Prop} {lim act dep : Int32} {a1 a2 a3 a4 a5 a6 a7 a8 a9 a10 a11 : Nat → Int32} {p : Int32} (hc : ((act >>> (p &&& 31)) &&& 1) = 1) (h : post 1) : wpX_counts post (lim, act, dep, a1, a2, a3, a4, a5, a6, a7, a8, a9, a10, a11) p := br_t hc h
theorem ib_cf {post : Int32 → Prop} {lim act dep : Int32} {a1 a2 a3 a4 a5 a6 a7 a8 a9 a10 a11 : Nat → Int32} {p : Int32} (hc : ¬ ((act >>> (p &&& 31)) &&& 1) = 1) (h : post 0) : wpX_counts post (lim, act, dep, a1, a2, a3, a4, a5, a6, a7, a8, a9, a10, a11) p := br_f hc h
theorem ib_na_exit {post : St2 → Prop} {lim act dep : Int32} {a1 a2 a3 a4 a5 a6 a7 a8 a9 a10 a11 : Nat → Int32} {x1 x2 : Int32} {m n : Nat} (h : wX_narrowAll_4 post m x1 (x2 + 1) lim act dep a1 a2 a3 a4 a5 a6 a7 a8 a9 a10 a11) : wX_narrowAll_25 post (wX_narrowAll_4 post m) x2 (n + 1) x1 (nI 8) lim act dep a1 a2 a3 a4 a5 a6 a7 a8 a9 a10 a11 :=
  pk_le 8 8 (fun _ => nm_e h) (fun z => absurd z (by omega))
theorem ib_na_skip {post : St2 → Prop} {lim act dep : Int32} {a1 a2 a3 a4 a5 a6 a7 a8 a9 a10 a11 : Nat → Int32} {x1 x2 : Int32} {m n : Nat} (i : Nat) (hi : i < 8) (hc : ¬ ((act >>> (nI i &&& 31)) &&& 1) = 1) (h : wX_narrowAll_25 post (wX_narrowAll_4 post m) x2 n x1 (nI (i + 1)) lim act dep a1 a2 a3 a4 a5 a6 a7 a8 a9 a10 a11) : wX_narrowAll_25 post (wX_narrowAll_4 post m) x2 (n + 1) x1 (nI i) lim act dep a1 a2 a3 a4 a5 a6 a7 a8 a9 a10 a11 :=
  pk_le 8 i (fun z => absurd z (by omega)) (fun _ => ib_cf hc (br_t rfl (nm_r (nI_1 i) h)))
theorem ib_na_doP {post : St2 → Prop} {lim act dep : Int32} {a1 a2 a3 a4 a5 a6 a7 a8 a9 a10 a11 : Nat → Int32} {x1 x2 : Int32} {m n : Nat} {k : Nat} {g b : Int32} (i : Nat) (hi : i < 8) (hc : ((act >>> (nI i &&& 31)) &&& 1) = 1) (hk : k < 3) (hL : ib_L k i g b a3 a4) (hg : ¬ g ≤ 0) (hm : a10 0 < a10 0 + 1) (hx : x1 = 0 ∨ x1 = 1)
    (H0 : ib_E a9 a10 → x1 = 1 ∧ ∀ a : Nat → Int32, ib_E a a10 → wX_narrowAll_25 post (wX_narrowAll_4 post m) x2 n 1 (nI (i + 1)) lim act dep a1 a2 a3 a4 a5 a6 a7 a8 a a10 a11)
    (H1 : ¬ ib_E a9 a10 → ¬ g * a9 k ≤ b → wX_narrowAll_25 post (wX_narrowAll_4 post m) x2 n 1 (nI (i + 1)) lim act dep a1 a2 a3 a4 a5 a6 a7 a8 (upd a9 0 (a10 0 + 1)) a10 a11)
    (H2 : ¬ ib_E a9 a10 → g * a9 k ≤ b → ib_fd b g < a10 k → wX_narrowAll_25 post (wX_narrowAll_4 post m) x2 n 1 (nI (i + 1)) lim act dep a1 a2 a3 a4 a5 a6 a7 a8 a9 (upd a10 k (ib_fd b g)) a11)
    (H3 : ¬ ib_E a9 a10 → g * a9 k ≤ b → ¬ ib_fd b g < a10 k → wX_narrowAll_25 post (wX_narrowAll_4 post m) x2 n x1 (nI (i + 1)) lim act dep a1 a2 a3 a4 a5 a6 a7 a8 a9 a10 a11) :
    wX_narrowAll_25 post (wX_narrowAll_4 post m) x2 (n + 1) x1 (nI i) lim act dep a1 a2 a3 a4 a5 a6 a7 a8 a9 a10 a11 := by
  refine pk_le 8 i (fun z => absurd z (by omega)) (fun _ => ib_ct hc (br_f (by decide) ?_))
  refine ib_nbP hi hk hL hg hm (fun hE r a ha => ?_) (fun hE z => ?_) (fun hE z y => ?_) (fun hE z y => ?_)
  · obtain ⟨e, h⟩ := H0 hE
    exact br_f (by rw [e]; decide) (nm_r (nI_1 i) (h a ha))
  · exact br_c (fun _ => br_f (by decide) (nm_r (nI_1 i) (H1 hE z))) (fun _ => nm_r (nI_1 i) (H1 hE z))
  · exact br_c (fun _ => br_f (by decide) (nm_r (nI_1 i) (H2 hE z y))) (fun _ => nm_r (nI_1 i) (H2 hE z y))
  · have h := H3 hE z y
    rcases hx with rfl | rfl
    · exact br_t rfl (br_t rfl (nm_r (nI_1 i) h))
    · exact br_f (by decide) (nm_r (nI_1 i) h)
theorem ib_na_doN {post : St2 → Prop} {lim act dep : Int32} {a1 a2 a3 a4 a5 a6 a7 a8 a9 a10 a11 : Nat → Int32} {x1 x2 : Int32} {m n : Nat} {k : Nat} {g b : Int32} (i : Nat) (hi : i < 8) (hc : ((act >>> (nI i &&& 31)) &&& 1) = 1) (hk : k < 3) (hL : ib_L k i g b a3 a4) (hg : g ≤ 0) (hg' : ¬ -g ≤ 0) (hm : a10 0 < a10 0 + 1) (hx : x1 = 0 ∨ x1 = 1)
    (H0 : ib_E a9 a10 → x1 = 1 ∧ ∀ a : Nat → Int32, ib_E a a10 → wX_narrowAll_25 post (wX_narrowAll_4 post m) x2 n 1 (nI (i + 1)) lim act dep a1 a2 a3 a4 a5 a6 a7 a8 a a10 a11)
    (H1 : ¬ ib_E a9 a10 → ¬ g * a10 k ≤ b → wX_narrowAll_25 post (wX_narrowAll_4 post m) x2 n 1 (nI (i + 1)) lim act dep a1 a2 a3 a4 a5 a6 a7 a8 (upd a9 0 (a10 0 + 1)) a10 a11)
    (H2 : ¬ ib_E a9 a10 → g * a10 k ≤ b → a9 k < -ib_fd b (-g) → wX_narrowAll_25 post (wX_narrowAll_4 post m) x2 n 1 (nI (i + 1)) lim act dep a1 a2 a3 a4 a5 a6 a7 a8 (upd a9 k (-ib_fd b (-g))) a10 a11)
    (H3 : ¬ ib_E a9 a10 → g * a10 k ≤ b → ¬ a9 k < -ib_fd b (-g) → wX_narrowAll_25 post (wX_narrowAll_4 post m) x2 n x1 (nI (i + 1)) lim act dep a1 a2 a3 a4 a5 a6 a7 a8 a9 a10 a11) :
    wX_narrowAll_25 post (wX_narrowAll_4 post m) x2 (n + 1) x1 (nI i) lim act dep a1 a2 a3 a4 a5 a6 a7 a8 a9 a10 a11 := by
  refine pk_le 8 i (fun z => absurd z (by omega)) (fun _ => ib_ct hc (br_f (by decide) ?_))
  refine ib_nbN hi hk hL hg hg' hm (fun hE r a ha => ?_) (fun hE z => ?_) (fun hE z y => ?_) (fun hE z y => ?_)
  · obtain ⟨e, h⟩ := H0 hE
    exact br_f (by rw [e]; decide) (nm_r (nI_1 i) (h a ha))
  · exact br_c (fun _ => br_f (by decide) (nm_r (nI_1 i) (H1 hE z))) (fun _ => nm_r (nI_1 i) (H1 hE z))
  · exact br_c (fun _ => br_f (by decide) (nm_r (nI_1 i) (H2 hE z y))) (fun _ => nm_r (nI_1 i) (H2 hE z y))
  · have h := H3 hE z y
    rcases hx with rfl | rfl
    · exact br_t rfl (br_t rfl (nm_r (nI_1 i) h))
    · exact br_f (by decide) (nm_r (nI_1 i) h)
theorem ib_na4_0 {post : St2 → Prop} {lim act dep : Int32} {a1 a2 a3 a4 a5 a6 a7 a8 a9 a10 a11 : Nat → Int32} {x2 : Int32} {n : Nat} (h : post (lim, act, dep, a1, a2, a3, a4, a5, a6, a7, a8, a9, a10, a11)) : wX_narrowAll_4 post (n + 1) 0 x2 lim act dep a1 a2 a3 a4 a5 a6 a7 a8 a9 a10 a11 := br_c (fun _ => h) (fun _ => br_t rfl h)
theorem ib_na4_1 {post : St2 → Prop} {lim act dep : Int32} {a1 a2 a3 a4 a5 a6 a7 a8 a9 a10 a11 : Nat → Int32} {x2 : Int32} {n : Nat} (hx : ¬ 52 ≤ x2) (hE : ib_E a9 a10 → post (lim, act, dep, a1, a2, a3, a4, a5, a6, a7, a8, a9, a10, a11)) (hN : ¬ ib_E a9 a10 → ∃ fu, wX_narrowAll_25 post (wX_narrowAll_4 post n) x2 fu 0 0 lim act dep a1 a2 a3 a4 a5 a6 a7 a8 a9 a10 a11) : wX_narrowAll_4 post (n + 1) 1 x2 lim act dep a1 a2 a3 a4 a5 a6 a7 a8 a9 a10 a11 :=
  br_f hx (br_f (by decide) (ib_empty (fun z => br_f (by decide) (hE z)) (fun z => br_t rfl (hN z))))
/-! active = 0 -/
theorem ib_all0 {post : St2 → Prop} {lim dep : Int32} {a1 a2 a3 a4 a5 a6 a7 a8 a9 a10 a11 : Nat → Int32} (hE : ¬ ib_E a9 a10) (h : post (lim, 0, dep, a1, a2, a3, a4, a5, a6, a7, a8, a9, a10, a11)) : wpX_narrowAll post (lim, 0, dep, a1, a2, a3, a4, a5, a6, a7, a8, a9, a10, a11) := by
  unfold wpX_narrowAll
  dsimp only
  refine ⟨2, ib_na4_1 (by decide) (fun z => absurd z hE) (fun _ => ⟨9, ?_⟩)⟩
  refine ib_na_skip 0 (by omega) (by decide) (ib_na_skip 1 (by omega) (by decide) (ib_na_skip 2 (by omega) (by decide) (ib_na_skip 3 (by omega) (by decide) ?_)))
  refine ib_na_skip 4 (by omega) (by decide) (ib_na_skip 5 (by omega) (by decide) (ib_na_skip 6 (by omega) (by decide) (ib_na_skip 7 (by omega) (by decide) ?_)))
  exact ib_na_exit (ib_na4_0 h)
/-! active = 1 -/
theorem ib_tail1 {post : St2 → Prop} {lim dep : Int32} {a1 a2 a3 a4 a5 a6 a7 a8 a9 a10 a11 : Nat → Int32} {x1 x2 : Int32} {m : Nat} (h : wX_narrowAll_4 post m x1 (x2 + 1) lim 1 dep a1 a2 a3 a4 a5 a6 a7 a8 a9 a10 a11) : wX_narrowAll_25 post (wX_narrowAll_4 post m) x2 8 x1 (nI 1) lim 1 dep a1 a2 a3 a4 a5 a6 a7 a8 a9 a10 a11 := by
  refine ib_na_skip 1 (by omega) (by decide) (ib_na_skip 2 (by omega) (by decide) (ib_na_skip 3 (by omega) (by decide) ?_))
  refine ib_na_skip 4 (by omega) (by decide) (ib_na_skip 5 (by omega) (by decide) (ib_na_skip 6 (by omega) (by decide) (ib_na_skip 7 (by omega) (by decide) ?_)))
  exact ib_na_exit h
theorem ib_in1 {post : St2 → Prop} {lim dep : Int32} {a1 a2 a3 a4 a5 a6 a7 a8 a9 a10 a11 : Nat → Int32} {x2 : Int32} {m : Nat} {k : Nat} {g b : Int32} (hk : k < 3) (hL : ib_L k 0 g b a3 a4) (hg : ¬ g ≤ 0) (hm : a10 0 < a10 0 + 1) (hE : ¬ ib_E a9 a10)
    (H1 : ¬ g * a9 k ≤ b → wX_narrowAll_4 post m 1 (x2 + 1) lim 1 dep a1 a2 a3 a4 a5 a6 a7 a8 (upd a9 0 (a10 0 + 1)) a10 a11)
    (H2 : g * a9 k ≤ b → ib_fd b g < a10 k → wX_narrowAll_4 post m 1 (x2 + 1) lim 1 dep a1 a2 a3 a4 a5 a6 a7 a8 a9 (upd a10 k (ib_fd b g)) a11)
    (H3 : g * a9 k ≤ b → ¬ ib_fd b g < a10 k → wX_narrowAll_4 post m 0 (x2 + 1) lim 1 dep a1 a2 a3 a4 a5 a6 a7 a8 a9 a10 a11) :
    ∃ fu, wX_narrowAll_25 post (wX_narrowAll_4 post m) x2 fu 0 0 lim 1 dep a1 a2 a3 a4 a5 a6 a7 a8 a9 a10 a11 :=
  ⟨9, ib_na_doP 0 (by omega) (by decide) hk hL hg hm (Or.inl rfl) (fun z => absurd z hE) (fun _ z => ib_tail1 (H1 z)) (fun _ z y => ib_tail1 (H2 z y)) (fun _ z y => ib_tail1 (H3 z y))⟩
theorem ib_all1 {post : St2 → Prop} {lim dep : Int32} {a1 a2 a3 a4 a5 a6 a7 a8 a9 a10 a11 : Nat → Int32} {k : Nat} {g b : Int32} (hk : k < 3) (hL : ib_L k 0 g b a3 a4) (hg : ¬ g ≤ 0) (hm : a10 0 < a10 0 + 1) (hq : ib_fd b g < ib_fd b g + 1) (hE : ¬ ib_E a9 a10)
    (H1 : ¬ g * a9 k ≤ b → post (lim, 1, dep, a1, a2, a3, a4, a5, a6, a7, a8, (upd a9 0 (a10 0 + 1)), a10, a11))
    (H2 : g * a9 k ≤ b → ib_fd b g < a10 k → post (lim, 1, dep, a1, a2, a3, a4, a5, a6, a7, a8, a9, (upd a10 k (ib_fd b g)), a11))
    (H3 : g * a9 k ≤ b → ¬ ib_fd b g < a10 k → post (lim, 1, dep, a1, a2, a3, a4, a5, a6, a7, a8, a9, a10, a11)) : wpX_narrowAll post (lim, 1, dep, a1, a2, a3, a4, a5, a6, a7, a8, a9, a10, a11) := by
  unfold wpX_narrowAll
  dsimp only
  refine ⟨4, ib_na4_1 (by decide) (fun z => absurd z hE) (fun _ => ib_in1 hk hL hg hm hE (fun z => ?_) (fun z y => ?_) (fun z y => ?_))⟩
  · exact ib_na4_1 (by decide) (fun _ => H1 z) (fun w => absurd (ib_Eu hm) w)
  · refine ib_na4_1 (by decide) (fun _ => H2 z y) (fun w => ib_in1 hk hL hg (ib_updm hm hq) w (fun v => absurd z v) (fun _ v => ?_) (fun _ _ => ib_na4_0 (H2 z y)))
    rw [pk_us] at v
    exact absurd v (Int32.lt_irrefl)
  · exact ib_na4_0 (H3 z y)
/-! active = 193 -/
theorem ib_193a {post : St2 → Prop} {lim dep : Int32} {a1 a2 a3 a4 a5 a6 a7 a8 a9 a10 a11 : Nat → Int32} {x2 : Int32} {m : Nat} {k : Nat} {g b g' b' : Int32} (hk : k < 3) (hL6 : ib_L k 6 g b a3 a4) (hL7 : ib_L k 7 g' b' a3 a4) (hg : ¬ g ≤ 0) (hg7 : g' ≤ 0) (hg7' : ¬ -g' ≤ 0) (hm : a10 0 < a10 0 + 1) (hE : ib_E a9 a10)
    (G : ∀ a : Nat → Int32, ib_E a a10 → wX_narrowAll_4 post m 1 (x2 + 1) lim 193 dep a1 a2 a3 a4 a5 a6 a7 a8 a a10 a11) : wX_narrowAll_25 post (wX_narrowAll_4 post m) x2 8 1 (nI 1) lim 193 dep a1 a2 a3 a4 a5 a6 a7 a8 a9 a10 a11 := by
  refine ib_na_skip 1 (by omega) (by decide) (ib_na_skip 2 (by omega) (by decide) (ib_na_skip 3 (by omega) (by decide) ?_))
  refine ib_na_skip 4 (by omega) (by decide) (ib_na_skip 5 (by omega) (by decide) ?_)
  refine ib_na_doP 6 (by omega) (by decide) hk hL6 hg hm (Or.inr rfl) (fun _ => ⟨rfl, fun a ha => ?_⟩) (fun z => absurd hE z) (fun z => absurd hE z) (fun z => absurd hE z)
  refine ib_na_doN 7 (by omega) (by decide) hk hL7 hg7 hg7' hm (Or.inr rfl) (fun _ => ⟨rfl, fun c hc => ?_⟩) (fun z => absurd ha z) (fun z => absurd ha z) (fun z => absurd ha z)
  exact ib_na_exit (G c hc)
theorem ib_193b {post : St2 → Prop} {lim dep : Int32} {a1 a2 a3 a4 a5 a6 a7 a8 a9 a10 a11 : Nat → Int32} {x1 x2 : Int32} {m : Nat} {k : Nat} {g b g' b' : Int32} (hk : k < 3) (hL6 : ib_L k 6 g b a3 a4) (hL7 : ib_L k 7 g' b' a3 a4) (hg : ¬ g ≤ 0) (hg7 : g' ≤ 0) (hg7' : ¬ -g' ≤ 0) (hm : a10 0 < a10 0 + 1) (hx : x1 = 0 ∨ x1 = 1) (hE : ¬ ib_E a9 a10)
    (h6 : g * a9 k ≤ b) (h6' : ¬ ib_fd b g < a10 k)
    (G1 : ¬ g' * a10 k ≤ b' → wX_narrowAll_4 post m 1 (x2 + 1) lim 193 dep a1 a2 a3 a4 a5 a6 a7 a8 (upd a9 0 (a10 0 + 1)) a10 a11)
    (G2 : g' * a10 k ≤ b' → a9 k < -ib_fd b' (-g') → wX_narrowAll_4 post m 1 (x2 + 1) lim 193 dep a1 a2 a3 a4 a5 a6 a7 a8 (upd a9 k (-ib_fd b' (-g'))) a10 a11)
    (G3 : g' * a10 k ≤ b' → ¬ a9 k < -ib_fd b' (-g') → wX_narrowAll_4 post m x1 (x2 + 1) lim 193 dep a1 a2 a3 a4 a5 a6 a7 a8 a9 a10 a11) : wX_narrowAll_25 post (wX_narrowAll_4 post m) x2 8 x1 (nI 1) lim 193 dep a1 a2 a3 a4 a5 a6 a7 a8 a9 a10 a11 := by
  refine ib_na_skip 1 (by omega) (by decide) (ib_na_skip 2 (by omega) (by decide) (ib_na_skip 3 (by omega) (by decide) ?_))
  refine ib_na_skip 4 (by omega) (by decide) (ib_na_skip 5 (by omega) (by decide) ?_)
  refine ib_na_doP 6 (by omega) (by decide) hk hL6 hg hm hx (fun z => absurd z hE) (fun _ z => absurd h6 z) (fun _ _ z => absurd z h6') (fun _ _ _ => ?_)
  exact ib_na_doN 7 (by omega) (by decide) hk hL7 hg7 hg7' hm hx (fun z => absurd z hE) (fun _ z => ib_na_exit (G1 z)) (fun _ z y => ib_na_exit (G2 z y)) (fun _ z y => ib_na_exit (G3 z y))
/-- a pass over a box in which nothing is left to narrow -/
theorem ib_193s {post : St2 → Prop} {lim dep : Int32} {a1 a2 a3 a4 a5 a6 a7 a8 a9 a10 a11 : Nat → Int32} {x2 : Int32} {m : Nat} {k : Nat} {g b g' b' : Int32} (hk : k < 3) (hL0 : ib_L k 0 g b a3 a4) (hL6 : ib_L k 6 g b a3 a4) (hL7 : ib_L k 7 g' b' a3 a4) (hg : ¬ g ≤ 0) (hg7 : g' ≤ 0) (hg7' : ¬ -g' ≤ 0) (hm : a10 0 < a10 0 + 1) (hE : ¬ ib_E a9 a10)
    (h6 : g * a9 k ≤ b) (h6' : ¬ ib_fd b g < a10 k) (h7 : g' * a10 k ≤ b') (h7' : ¬ a9 k < -ib_fd b' (-g')) (h : post (lim, 193, dep, a1, a2, a3, a4, a5, a6, a7, a8, a9, a10, a11)) : ∃ fu, wX_narrowAll_25 post (wX_narrowAll_4 post (m + 1)) x2 fu 0 0 lim 193 dep a1 a2 a3 a4 a5 a6 a7 a8 a9 a10 a11 :=
  ⟨9, ib_na_doP 0 (by omega) (by decide) hk hL0 hg hm (Or.inl rfl) (fun z => absurd z hE) (fun _ z => absurd h6 z) (fun _ _ z => absurd z h6') (fun _ _ _ => ib_193b hk hL6 hL7 hg hg7 hg7' hm (Or.inl rfl) hE h6 h6' (fun z => absurd h7 z) (fun _ z => absurd z h7') (fun _ _ => ib_na4_0 h))⟩
theorem ib_all193 {post : St2 → Prop} {lim dep : Int32} {a1 a2 a3 a4 a5 a6 a7 a8 a9 a10 a11 : Nat → Int32} {k : Nat} {g b g' b' : Int32} (hk : k < 3) (hL0 : ib_L k 0 g b a3 a4) (hL6 : ib_L k 6 g b a3 a4) (hL7 : ib_L k 7 g' b' a3 a4) (hg : ¬ g ≤ 0) (hg7 : g' ≤ 0) (hg7' : ¬ -g' ≤ 0) (hm : a10 0 < a10 0 + 1) (hq : ib_fd b g < ib_fd b g + 1) (hE : ¬ ib_E a9 a10)
    (hEq : g * a9 k ≤ b → ib_fd b g < a10 k → ¬ ib_E a9 (upd a10 k (ib_fd b g)))
    (hp : g' * ib_fd b g ≤ b' → g * (-ib_fd b' (-g')) ≤ b)
    (HE : ∀ c9 c10 : Nat → Int32, ib_E c9 c10 → (¬ g * a9 k ≤ b ∨ (ib_fd b g < a10 k ∧ ¬ g' * ib_fd b g ≤ b') ∨ (¬ ib_fd b g < a10 k ∧ ¬ g' * a10 k ≤ b')) → post (lim, 193, dep, a1, a2, a3, a4, a5, a6, a7, a8, c9, c10, a11))
    (HA : g * a9 k ≤ b → ib_fd b g < a10 k → g' * ib_fd b g ≤ b' → a9 k < -ib_fd b' (-g') → post (lim, 193, dep, a1, a2, a3, a4, a5, a6, a7, a8, (upd a9 k (-ib_fd b' (-g'))), (upd a10 k (ib_fd b g)), a11))
    (HB : g * a9 k ≤ b → ib_fd b g < a10 k → g' * ib_fd b g ≤ b' → ¬ a9 k < -ib_fd b' (-g') → post (lim, 193, dep, a1, a2, a3, a4, a5, a6, a7, a8, a9, (upd a10 k (ib_fd b g)), a11))
    (HC : g * a9 k ≤ b → ¬ ib_fd b g < a10 k → g' * a10 k ≤ b' → a9 k < -ib_fd b' (-g') → g * (-ib_fd b' (-g')) ≤ b ∧ post (lim, 193, dep, a1, a2, a3, a4, a5, a6, a7, a8, (upd a9 k (-ib_fd b' (-g'))), a10, a11))
    (HD : g * a9 k ≤ b → ¬ ib_fd b g < a10 k → g' * a10 k ≤ b' → ¬ a9 k < -ib_fd b' (-g') → post (lim, 193, dep, a1, a2, a3, a4, a5, a6, a7, a8, a9, a10, a11)) : wpX_narrowAll post (lim, 193, dep, a1, a2, a3, a4, a5, a6, a7, a8, a9, a10, a11) := by
  have hm' := ib_updm (k := k) hm hq
  unfold wpX_narrowAll
  dsimp only
  refine ⟨5, ib_na4_1 (by decide) (fun z => absurd z hE) (fun _ => ⟨9, ib_na_doP 0 (by omega) (by decide) hk hL0 hg hm (Or.inl rfl) (fun z => absurd z hE) (fun _ z => ?_) (fun _ z y => ?_) (fun _ z y => ?_)⟩)⟩
  · exact ib_193a hk hL6 hL7 hg hg7 hg7' hm (ib_Eu hm) (fun a ha => ib_na4_1 (by decide) (fun _ => HE a _ ha (Or.inl z)) (fun w => absurd ha w))
  · have e : upd a10 k (ib_fd b g) k = ib_fd b g := pk_us
    refine ib_193b hk hL6 hL7 hg hg7 hg7' hm' (Or.inr rfl) (hEq z y) z (by rw [e]; exact Int32.lt_irrefl) (fun w => ?_) (fun w v => ?_) (fun w v => ?_)
    · rw [e] at w
      exact ib_na4_1 (by decide) (fun t => HE _ _ t (Or.inr (Or.inl ⟨y, w⟩))) (fun t => absurd (ib_Eu hm') t)
    · have w' := w
      rw [e] at w'
      have e' : upd a9 k (-ib_fd b' (-g')) k = -ib_fd b' (-g') := pk_us
      exact ib_na4_1 (by decide) (fun _ => HA z y w' v) (fun t => ib_193s hk hL0 hL6 hL7 hg hg7 hg7' hm' t (by rw [e']; exact hp w') (by rw [e]; exact Int32.lt_irrefl) w (by rw [e']; exact Int32.lt_irrefl) (HA z y w' v))
    · have w' := w
      rw [e] at w'
      exact ib_na4_1 (by decide) (fun _ => HB z y w' v) (fun t => ib_193s hk hL0 hL6 hL7 hg hg7 hg7' hm' t z (by rw [e]; exact Int32.lt_irrefl) w v (HB z y w' v))
  · refine ib_193b hk hL6 hL7 hg hg7 hg7' hm (Or.inl rfl) hE z y (fun w => ?_) (fun w v => ?_) (fun w v => ?_)
    · exact ib_na4_1 (by decide) (fun t => HE _ _ t (Or.inr (Or.inr ⟨y, w⟩))) (fun t => absurd (ib_Eu hm) t)
    · have e' : upd a9 k (-ib_fd b' (-g')) k = -ib_fd b' (-g') := pk_us
      obtain ⟨c1, c2⟩ := HC z y w v
      exact ib_na4_1 (by decide) (fun _ => c2) (fun t => ib_193s hk hL0 hL6 hL7 hg hg7 hg7' hm t (by rw [e']; exact c1) y w (by rw [e']; exact Int32.lt_irrefl) c2)
    · exact ib_na4_0 (HD z y w v)
/-! free -/
theorem ib_fr_exit {post : Int32 → Prop} {lim act dep : Int32} {a1 a2 a3 a4 a5 a6 a7 a8 a9 a10 a11 : Nat → Int32} {n : Nat} (h : post 1) : wX_free_2 post lim act dep a1 a2 a3 a4 a5 a6 a7 a8 a9 a10 a11 (n + 1) (nI 8) :=
  pk_le 8 8 (fun _ => h) (fun z => absurd z (by omega))
theorem ib_fr_skip {post : Int32 → Prop} {lim act dep : Int32} {a1 a2 a3 a4 a5 a6 a7 a8 a9 a10 a11 : Nat → Int32} {n : Nat} (i : Nat) (hi : i < 8) (hc : ¬ ((act >>> (nI i &&& 31)) &&& 1) = 1) (h : wX_free_2 post lim act dep a1 a2 a3 a4 a5 a6 a7 a8 a9 a10 a11 n (nI (i + 1))) : wX_free_2 post lim act dep a1 a2 a3 a4 a5 a6 a7 a8 a9 a10 a11 (n + 1) (nI i) :=
  pk_le 8 i (fun z => absurd z (by omega)) (fun _ => ib_cf hc (br_t rfl (nm_r (nI_1 i) h)))
theorem ib_fr_do {post : Int32 → Prop} {lim act dep : Int32} {a1 a2 a3 a4 a5 a6 a7 a8 a9 a10 a11 : Nat → Int32} {n k : Nat} {g b : Int32} (i : Nat) (hi : i < 8) (hc : ((act >>> (nI i &&& 31)) &&& 1) = 1) (hk : k < 3) (hL : ib_L k i g b a3 a4) (hs : ib_lt g (a10 k) (a9 k) ≤ b) (h : wX_free_2 post lim act dep a1 a2 a3 a4 a5 a6 a7 a8 a9 a10 a11 n (nI (i + 1))) : wX_free_2 post lim act dep a1 a2 a3 a4 a5 a6 a7 a8 a9 a10 a11 (n + 1) (nI i) := by
  refine pk_le 8 i (fun z => absurd z (by omega)) (fun _ => ib_ct hc (br_f (by decide) (ib_greatSum hi hk hL ⟨pk_in i 8 hi, br_t ?_ (nm_r (nI_1 i) h)⟩)))
  rw [nI_clamp (show i < 2 ^ 31 by omega), hL.2]
  exact hs
theorem ib_free0 {post : Int32 → Prop} {lim dep : Int32} {a1 a2 a3 a4 a5 a6 a7 a8 a9 a10 a11 : Nat → Int32} (h : post 1) : wpX_free post (lim, 0, dep, a1, a2, a3, a4, a5, a6, a7, a8, a9, a10, a11) := by
  unfold wpX_free
  dsimp only
  refine ⟨9, ib_fr_skip 0 (by omega) (by decide) (ib_fr_skip 1 (by omega) (by decide) (ib_fr_skip 2 (by omega) (by decide) (ib_fr_skip 3 (by omega) (by decide) ?_)))⟩
  exact ib_fr_skip 4 (by omega) (by decide) (ib_fr_skip 5 (by omega) (by decide) (ib_fr_skip 6 (by omega) (by decide) (ib_fr_skip 7 (by omega) (by decide) (ib_fr_exit h))))
theorem ib_free1 {post : Int32 → Prop} {lim dep : Int32} {a1 a2 a3 a4 a5 a6 a7 a8 a9 a10 a11 : Nat → Int32} {k : Nat} {g b : Int32} (hk : k < 3) (hL : ib_L k 0 g b a3 a4) (hg : ¬ g ≤ 0) (hs : g * a10 k ≤ b) (h : post 1) : wpX_free post (lim, 1, dep, a1, a2, a3, a4, a5, a6, a7, a8, a9, a10, a11) := by
  unfold wpX_free
  dsimp only
  refine ⟨9, ib_fr_do 0 (by omega) (by decide) hk hL (by rw [ib_ltP hg]; exact hs) (ib_fr_skip 1 (by omega) (by decide) (ib_fr_skip 2 (by omega) (by decide) (ib_fr_skip 3 (by omega) (by decide) ?_)))⟩
  exact ib_fr_skip 4 (by omega) (by decide) (ib_fr_skip 5 (by omega) (by decide) (ib_fr_skip 6 (by omega) (by decide) (ib_fr_skip 7 (by omega) (by decide) (ib_fr_exit h))))
theorem ib_free193 {post : Int32 → Prop} {lim dep : Int32} {a1 a2 a3 a4 a5 a6 a7 a8 a9 a10 a11 : Nat → Int32} {k : Nat} {g b g' b' : Int32} (hk : k < 3) (hL0 : ib_L k 0 g b a3 a4) (hL6 : ib_L k 6 g b a3 a4) (hL7 : ib_L k 7 g' b' a3 a4) (hg : ¬ g ≤ 0) (hg7 : g' ≤ 0) (hs : g * a10 k ≤ b) (hs' : g' * a9 k ≤ b') (h : post 1) : wpX_free post (lim, 193, dep, a1, a2, a3, a4, a5, a6, a7, a8, a9, a10, a11) := by
  unfold wpX_free
  dsimp only
  refine ⟨9, ib_fr_do 0 (by omega) (by decide) hk hL0 (by rw [ib_ltP hg]; exact hs) (ib_fr_skip 1 (by omega) (by decide) (ib_fr_skip 2 (by omega) (by decide) (ib_fr_skip 3 (by omega) (by decide) ?_)))⟩
  exact ib_fr_skip 4 (by omega) (by decide) (ib_fr_skip 5 (by omega) (by decide) (ib_fr_do 6 (by omega) (by decide) hk hL6 (by rw [ib_ltP hg]; exact hs) (ib_fr_do 7 (by omega) (by decide) hk hL7 (by rw [ib_ltN hg7]; exact hs') (ib_fr_exit h))))
end
section
/-- two arrays of three places agree -/
def ib_eq3 (f g : Nat → Int32) : Prop := ∀ j, j < 3 → f j = g j
theorem ib_3 {f g : Nat → Int32} (h0 : f 0 = g 0) (h1 : f 1 = g 1) (h2 : f 2 = g 2) : ib_eq3 f g := by
  intro j hj
  rcases (show j = 0 ∨ j = 1 ∨ j = 2 by omega) with rfl | rfl | rfl
  · exact h0
  · exact h1
  · exact h2
theorem ib_eqt {f g h : Nat → Int32} (a : ib_eq3 f g) (b : ib_eq3 g h) : ib_eq3 f h := fun j hj => (a j hj).trans (b j hj)
theorem ib_equ {f g : Nat → Int32} {k : Nat} {x y : Int32} (h : ib_eq3 f g) (hx : x = y) : ib_eq3 (upd f k x) (upd g k y) := by
  intro j hj
  by_cases e : j = k
  · rw [e, pk_us, pk_us, hx]
  · rw [pk_un e, pk_un e]
    exact h j hj
theorem ib_eqs {f g : Nat → Int32} {k : Nat} {x : Int32} (h : ib_eq3 f g) (hx : g k = x) : ib_eq3 f (upd g k x) := by
  intro j hj
  by_cases e : j = k
  · rw [e, pk_us, ← hx, ← e]
    exact h j hj
  · rw [pk_un e]
    exact h j hj
theorem ib_Ec {a b c d : Nat → Int32} (h : ib_eq3 a c) (h' : ib_eq3 b d) (hE : ib_E a b) : ib_E c d := by
  obtain ⟨j, hj, hz⟩ := hE
  exact ⟨j, hj, by rw [← h j hj, ← h' j hj]; exact hz⟩
/-- narrowing one variable leaves a box that isn't empty as long as its ends are in order -/
theorem ib_nE {a c : Nat → Int32} {k : Nat} {x : Int32} (hE : ¬ ib_E a c) (hx : ¬ x < a k) : ¬ ib_E a (upd c k x) := by
  rintro ⟨j, hj, hz⟩
  by_cases e : j = k
  · rw [e, pk_us] at hz
    exact hx hz
  · rw [pk_un e] at hz
    exact hE ⟨j, hj, hz⟩
theorem ib_nE2 {a c : Nat → Int32} {k : Nat} {x : Int32} (hE : ¬ ib_E a c) : ¬ ib_E (upd a k x) (upd c k x) := by
  rintro ⟨j, hj, hz⟩
  by_cases e : j = k
  · rw [e, pk_us, pk_us] at hz
    exact Int32.lt_irrefl hz
  · rw [pk_un e, pk_un e] at hz
    exact hE ⟨j, hj, hz⟩
/-! the stack at its first place -/
theorem ib_i0 (v : Nat) : nI 0 * 3 + nI v = nI v := by rw [ib_ix, Nat.zero_mul, Nat.zero_add]
theorem ib_pu_0 {post : St2 → Prop} {lim act : Int32} {a1 a2 a3 a4 a5 a6 a7 a8 a9 a10 a11 : Nat → Int32} {x2 x3 : Int32} {n : Nat} (h : wX_push_3 post (nI 0) x2 x3 lim act (nI 0) n (nI 1) a1 a2 a3 a4 a5 a6 (upd a7 0 x2) (upd a8 0 x3) a9 a10 a11) : wX_push_3 post (nI 0) x2 x3 lim act (nI 0) (n + 1) (nI 0) a1 a2 a3 a4 a5 a6 a7 a8 a9 a10 a11 := by
  have c : (nI 0).toNatClampNeg = 0 := nI_clamp (by omega)
  refine pk_le 3 0 (fun z => absurd z (by omega)) (fun _ => br_t rfl ?_)
  unfold wX_push_39
  rw [ib_i0, c]
  exact ⟨pk_in 0 96 (by omega), nm_e (br_t rfl ⟨pk_in 0 96 (by omega), nm_e (nm_r (nI_1 0) h)⟩)⟩
theorem ib_pu_v {post : St2 → Prop} {lim act : Int32} {a1 a2 a3 a4 a5 a6 a7 a8 a9 a10 a11 : Nat → Int32} {x2 x3 : Int32} {n : Nat} (v : Nat) (hv : v < 3) (h0 : v ≠ 0) (h : wX_push_3 post (nI 0) x2 x3 lim act (nI 0) n (nI (v + 1)) a1 a2 a3 a4 a5 a6 (upd a7 v (a9 v)) (upd a8 v (a10 v)) a9 a10 a11) : wX_push_3 post (nI 0) x2 x3 lim act (nI 0) (n + 1) (nI v) a1 a2 a3 a4 a5 a6 a7 a8 a9 a10 a11 := by
  have c : (nI v).toNatClampNeg = v := nI_clamp (by omega)
  refine pk_le 3 v (fun z => absurd z (by omega)) (fun _ => pk_eq v 0 (fun z => absurd z h0) (fun _ => ⟨pk_in v 3 hv, ?_⟩))
  unfold wX_push_39
  rw [ib_i0, c]
  exact ⟨pk_in v 96 (by omega), nm_e (pk_eq v 0 (fun z => absurd z h0) (fun _ => ⟨pk_in v 3 hv, pk_in v 96 (by omega), nm_e (nm_r (nI_1 v) h)⟩))⟩
theorem ib_push {post : St2 → Prop} {lim act : Int32} {a1 a2 a3 a4 a5 a6 a7 a8 a9 a10 a11 : Nat → Int32} {x2 x3 : Int32} (h : post (lim, act, (nI 1), a1, a2, a3, a4, a5, a6, (upd (upd (upd a7 0 x2) 1 (a9 1)) 2 (a9 2)), (upd (upd (upd a8 0 x3) 1 (a10 1)) 2 (a10 2)), a9, a10, a11)) : wpX_push post (lim, act, (nI 0), a1, a2, a3, a4, a5, a6, a7, a8, a9, a10, a11) (nI 0) x2 x3 := by
  unfold wpX_push
  dsimp only
  exact ⟨4, ib_pu_0 (ib_pu_v 1 (by omega) (by omega) (ib_pu_v 2 (by omega) (by omega) (pk_le 3 3 (fun _ => nm_r (nI_1 0) h) (fun z => absurd z (by omega)))))⟩
theorem ib_bg_v {post : St2 → Prop} {lim act dep : Int32} {a1 a2 a3 a4 a5 a6 a7 a8 a9 a10 a11 : Nat → Int32} {n : Nat} (v : Nat) (hv : v < 3) (h : wX_begin_12 post lim act dep n (nI (v + 1)) a1 a2 a3 a4 a5 a6 a7 a8 (upd a9 v (a1 v)) (upd a10 v (a2 v)) a11) : wX_begin_12 post lim act dep (n + 1) (nI v) a1 a2 a3 a4 a5 a6 a7 a8 a9 a10 a11 := by
  have c : (nI v).toNatClampNeg = v := nI_clamp (by omega)
  refine pk_le 3 v (fun z => absurd z (by omega)) (fun _ => ?_)
  rw [c]
  exact ⟨pk_in v 3 hv, pk_in v 3 hv, nm_e ⟨pk_in v 3 hv, pk_in v 3 hv, nm_e (nm_r (nI_1 v) h)⟩⟩
theorem ib_begin {post : St2 → Prop} {lim act dep : Int32} {a1 a2 a3 a4 a5 a6 a7 a8 a9 a10 a11 : Nat → Int32} {p0 : Int32} (h : ∀ b7 b8 b9 b10 : Nat → Int32, ib_eq3 b7 a1 → ib_eq3 b8 a2 → post (lim, p0, 1, a1, a2, a3, a4, a5, a6, b7, b8, b9, b10, a11)) : wpX_begin post (lim, act, dep, a1, a2, a3, a4, a5, a6, a7, a8, a9, a10, a11) p0 := by
  unfold wpX_begin
  dsimp only
  refine ⟨4, ib_bg_v 0 (by omega) (ib_bg_v 1 (by omega) (ib_bg_v 2 (by omega) (pk_le 3 3 (fun _ => ?_) (fun z => absurd z (by omega)))))⟩
  refine ib_push ?_
  refine h _ _ _ _ (ib_3 ?_ ?_ ?_) (ib_3 ?_ ?_ ?_)
  · simp [upd]
  · simp [upd]
  · simp [upd]
  · simp [upd]
  · simp [upd]
  · simp [upd]
theorem ib_pp_v {post : St2 → Prop} {lim act : Int32} {a1 a2 a3 a4 a5 a6 a7 a8 a9 a10 a11 : Nat → Int32} {n : Nat} (v : Nat) (hv : v < 3) (h : wX_pop_12 post lim act (nI 0) n (nI (v + 1)) a1 a2 a3 a4 a5 a6 a7 a8 (upd a9 v (a7 v)) (upd a10 v (a8 v)) a11) : wX_pop_12 post lim act (nI 0) (n + 1) (nI v) a1 a2 a3 a4 a5 a6 a7 a8 a9 a10 a11 := by
  have c : (nI v).toNatClampNeg = v := nI_clamp (by omega)
  refine pk_le 3 v (fun z => absurd z (by omega)) (fun _ => ?_)
  rw [ib_i0, c]
  exact ⟨pk_in v 96 (by omega), pk_in v 3 hv, nm_e ⟨pk_in v 96 (by omega), pk_in v 3 hv, nm_e (nm_r (nI_1 v) h)⟩⟩
theorem ib_pop {post : St2 → Prop} {lim act : Int32} {a1 a2 a3 a4 a5 a6 a7 a8 a9 a10 a11 : Nat → Int32} (h : ∀ b9 b10 : Nat → Int32, ib_eq3 b9 a7 → ib_eq3 b10 a8 → post (lim, act, 0, a1, a2, a3, a4, a5, a6, a7, a8, b9, b10, a11)) : wpX_pop post (lim, act, 1, a1, a2, a3, a4, a5, a6, a7, a8, a9, a10, a11) := by
  unfold wpX_pop
  dsimp only
  refine nm_r (e' := nI 0) (by decide) ⟨4, ib_pp_v 0 (by omega) (ib_pp_v 1 (by omega) (ib_pp_v 2 (by omega) (pk_le 3 3 (fun _ => ?_) (fun z => absurd z (by omega)))))⟩
  refine h _ _ (ib_3 ?_ ?_ ?_) (ib_3 ?_ ?_ ?_)
  · simp [upd]
  · simp [upd]
  · simp [upd]
  · simp [upd]
  · simp [upd]
  · simp [upd]
/-- a search over a set of limits: the box it begins with is narrowed to nothing (X), or to lo and hi, where all limits hold -/
def ib_R (lim set : Int32) (a1 a2 a3 a4 a5 a6 : Nat → Int32) (X : Prop) (lo hi : Nat → Int32) : Prop :=
  (∀ (ψ : St2 → Prop) (b7 b8 b9 b10 b11 : Nat → Int32), ib_eq3 b9 a1 → ib_eq3 b10 a2 → (X → ∀ c9 c10 : Nat → Int32, ib_E c9 c10 → ψ (lim, set, 0, a1, a2, a3, a4, a5, a6, b7, b8, c9, c10, b11)) → (¬ X → ∀ c9 c10 : Nat → Int32, ib_eq3 c9 lo → ib_eq3 c10 hi → ψ (lim, set, 0, a1, a2, a3, a4, a5, a6, b7, b8, c9, c10, b11)) → wpX_narrowAll ψ (lim, set, 0, a1, a2, a3, a4, a5, a6, b7, b8, b9, b10, b11)) ∧
  (¬ X → (∀ (ψ : Int32 → Prop) (b7 b8 c9 c10 b11 : Nat → Int32), ib_eq3 c9 lo → ib_eq3 c10 hi → ψ 1 → wpX_free ψ (lim, set, 0, a1, a2, a3, a4, a5, a6, b7, b8, c9, c10, b11)) ∧ ¬ ib_E lo hi)
def ib_vol (lo hi : Nat → Int32) : Int32 := (((hi 0 - lo 0) + 1) * ((hi 1 - lo 1) + 1)) * ((hi 2 - lo 2) + 1)
theorem ib_volc {a b c d : Nat → Int32} (h : ib_eq3 a c) (h' : ib_eq3 b d) : ib_vol a b = ib_vol c d := by
  unfold ib_vol
  rw [h 0 (by omega), h 1 (by omega), h 2 (by omega), h' 0 (by omega), h' 1 (by omega), h' 2 (by omega)]
theorem ib_cp_end {post : Int32 → St2 → Prop} {lim act : Int32} {a1 a2 a3 a4 a5 a6 a7 a8 a9 a10 a11 : Nat → Int32} {x2 x3 : Int32} {n : Nat} (h : post x2 (lim, act, 0, a1, a2, a3, a4, a5, a6, a7, a8, a9, a10, a11)) : wX_countPoints_9 post (n + 1) x2 x3 lim act 0 a1 a2 a3 a4 a5 a6 a7 a8 a9 a10 a11 := br_c (fun _ => h) (fun _ => br_t (by decide) h)
theorem ib_cp {post : Int32 → St2 → Prop} {lim act dep : Int32} {a1 a2 a3 a4 a5 a6 a7 a8 a9 a10 a11 : Nat → Int32} {set : Int32} {X : Prop} {lo hi : Nat → Int32} (hR : ib_R lim set a1 a2 a3 a4 a5 a6 X lo hi)
    (hX : X → ∀ b7 b8 b9 b10 : Nat → Int32, post 0 (lim, set, 0, a1, a2, a3, a4, a5, a6, b7, b8, b9, b10, a11))
    (hN : ¬ X → ∀ b7 b8 b9 b10 : Nat → Int32, post (ib_vol lo hi) (lim, set, 0, a1, a2, a3, a4, a5, a6, b7, b8, b9, b10, a11)) : wpX_countPoints post (lim, act, dep, a1, a2, a3, a4, a5, a6, a7, a8, a9, a10, a11) set := by
  unfold wpX_countPoints
  dsimp only
  refine ib_begin (fun b7 b8 b9 b10 h7 h8 => ?_)
  refine Exists.intro 2 ?_
  refine br_f (by decide) (br_f (show ¬ (1 : Int32) ≤ 0 by decide) ?_)
  refine ib_pop (fun c9 c10 h9 h10 => ?_)
  refine hR.1 _ b7 b8 c9 c10 a11 (ib_eqt h9 h7) (ib_eqt h10 h8) (fun x d9 d10 hE => ?_) (fun x d9 d10 g9 g10 => ?_)
  · exact ib_empty (fun _ => br_f (by decide) (nm_e (ib_cp_end (hX x _ _ _ _)))) (fun z => absurd hE z)
  · obtain ⟨hF, hne⟩ := hR.2 x
    refine ib_empty (fun z => absurd (ib_Ec g9 g10 z) hne) (fun _ => br_t rfl (hF _ b7 b8 d9 d10 a11 g9 g10 (br_f (by decide) ?_)))
    unfold wpX_volume
    dsimp only
    refine nm_r (e' := ib_vol lo hi) ?_ (nm_e (ib_cp_end (hN x _ _ _ _)))
    rw [← ib_volc g9 g10, Int32.zero_add]
    rfl
theorem ib_ff_v {post : Int32 → St2 → Prop} {lim act dep : Int32} {a1 a2 a3 a4 a5 a6 a7 a8 a9 a10 a11 : Nat → Int32} {n : Nat} (v : Nat) (hv : v < 3) (h : wX_findFirst_48 post lim act dep n (nI (v + 1)) a1 a2 a3 a4 a5 a6 a7 a8 a9 a10 (upd a11 v (a9 v))) : wX_findFirst_48 post lim act dep (n + 1) (nI v) a1 a2 a3 a4 a5 a6 a7 a8 a9 a10 a11 := by
  have c : (nI v).toNatClampNeg = v := nI_clamp (by omega)
  refine pk_le 3 v (fun z => absurd z (by omega)) (fun _ => ?_)
  rw [c]
  exact ⟨pk_in v 3 hv, pk_in v 3 hv, nm_e (nm_r (nI_1 v) h)⟩
theorem ib_ff_end {post : Int32 → St2 → Prop} {lim act : Int32} {a1 a2 a3 a4 a5 a6 a7 a8 a9 a10 a11 : Nat → Int32} {x2 : Int32} {n : Nat} (h : post 0 (lim, act, 0, a1, a2, a3, a4, a5, a6, a7, a8, a9, a10, a11)) : wX_findFirst_7 post (n + 1) x2 lim act 0 a1 a2 a3 a4 a5 a6 a7 a8 a9 a10 a11 := br_c (fun _ => h) (fun _ => br_t (by decide) h)
theorem ib_ff {post : Int32 → St2 → Prop} {lim act dep : Int32} {a1 a2 a3 a4 a5 a6 a7 a8 a9 a10 a11 : Nat → Int32} {set : Int32} {X : Prop} {lo hi : Nat → Int32} (hR : ib_R lim set a1 a2 a3 a4 a5 a6 X lo hi)
    (hX : X → ∀ b7 b8 b9 b10 : Nat → Int32, post 0 (lim, set, 0, a1, a2, a3, a4, a5, a6, b7, b8, b9, b10, a11))
    (hN : ¬ X → ∀ b7 b8 b9 b10 b11 : Nat → Int32, ib_eq3 b11 lo → post 1 (lim, set, 0, a1, a2, a3, a4, a5, a6, b7, b8, b9, b10, b11)) : wpX_findFirst post (lim, act, dep, a1, a2, a3, a4, a5, a6, a7, a8, a9, a10, a11) set := by
  unfold wpX_findFirst
  dsimp only
  refine ib_begin (fun b7 b8 b9 b10 h7 h8 => ?_)
  refine Exists.intro 2 ?_
  refine br_f (by decide) (br_f (show ¬ (1 : Int32) ≤ 0 by decide) ?_)
  refine ib_pop (fun c9 c10 h9 h10 => ?_)
  refine hR.1 _ b7 b8 c9 c10 a11 (ib_eqt h9 h7) (ib_eqt h10 h8) (fun x d9 d10 hE => ?_) (fun x d9 d10 g9 g10 => ?_)
  · exact ib_empty (fun _ => br_f (by decide) (nm_e (ib_ff_end (hX x _ _ _ _)))) (fun z => absurd hE z)
  · obtain ⟨hF, hne⟩ := hR.2 x
    refine ib_empty (fun z => absurd (ib_Ec g9 g10 z) hne) (fun _ => br_t rfl (hF _ b7 b8 d9 d10 a11 g9 g10 (br_f (by decide) ?_)))
    refine Exists.intro 4 (ib_ff_v 0 (by omega) (ib_ff_v 1 (by omega) (ib_ff_v 2 (by omega) (pk_le 3 3 (fun _ => ?_) (fun z => absurd z (by omega))))))
    refine hN x _ _ _ _ _ (ib_eqt (ib_3 ?_ ?_ ?_) g9)
    · simp [upd]
    · simp [upd]
    · simp [upd]
/-- the goal's bound in a box -/
def ib_gb (a6 lo hi : Nat → Int32) : Int32 := ((0 + ib_lt (a6 0) (hi 0) (lo 0)) + ib_lt (a6 1) (hi 1) (lo 1)) + ib_lt (a6 2) (hi 2) (lo 2)
theorem ib_gbc {a6 a b c d : Nat → Int32} (h : ib_eq3 a c) (h' : ib_eq3 b d) : ib_gb a6 a b = ib_gb a6 c d := by
  unfold ib_gb
  rw [h 0 (by omega), h 1 (by omega), h 2 (by omega), h' 0 (by omega), h' 1 (by omega), h' 2 (by omega)]
theorem ib_go_v {post : Int32 → Prop} {lim act dep : Int32} {a1 a2 a3 a4 a5 a6 a7 a8 a9 a10 a11 : Nat → Int32} {x1 : Int32} {n : Nat} (v : Nat) (hv : v < 3) (h : wX_goalBound_4 post lim act dep a1 a2 a3 a4 a5 a6 a7 a8 a9 a10 a11 n (x1 + ib_lt (a6 v) (a10 v) (a9 v)) (nI (v + 1))) : wX_goalBound_4 post lim act dep a1 a2 a3 a4 a5 a6 a7 a8 a9 a10 a11 (n + 1) x1 (nI v) := by
  have c : (nI v).toNatClampNeg = v := nI_clamp (by omega)
  refine pk_le 3 v (fun z => absurd z (by omega)) (fun _ => ?_)
  rw [c]
  refine ⟨pk_in v 3 hv, ?_⟩
  by_cases z : a6 v ≤ 0
  · rw [ib_ltN z] at h
    exact br_t z ⟨pk_in v 3 hv, pk_in v 3 hv, nm_e (nm_r (nI_1 v) h)⟩
  · rw [ib_ltP z] at h
    exact br_f z ⟨pk_in v 3 hv, pk_in v 3 hv, nm_e (nm_r (nI_1 v) h)⟩
theorem ib_goal {post : Int32 → Prop} {lim act dep : Int32} {a1 a2 a3 a4 a5 a6 a7 a8 a9 a10 a11 : Nat → Int32} (h : post (ib_gb a6 a9 a10)) : wpX_goalBound post (lim, act, dep, a1, a2, a3, a4, a5, a6, a7, a8, a9, a10, a11) := by
  unfold wpX_goalBound
  dsimp only
  exact ⟨4, ib_go_v 0 (by omega) (ib_go_v 1 (by omega) (ib_go_v 2 (by omega) (pk_le 3 3 (fun _ => h) (fun z => absurd z (by omega)))))⟩
theorem ib_fg_end {post : Int32 → St2 → Prop} {lim act : Int32} {a1 a2 a3 a4 a5 a6 a7 a8 a9 a10 a11 : Nat → Int32} {x2 x3 : Int32} {n : Nat} (h : post x2 (lim, act, 0, a1, a2, a3, a4, a5, a6, a7, a8, a9, a10, a11)) : wX_findGreatest_11 post (n + 1) x2 x3 lim act 0 a1 a2 a3 a4 a5 a6 a7 a8 a9 a10 a11 := br_c (fun _ => h) (fun _ => br_t (by decide) h)
theorem ib_fg {post : Int32 → St2 → Prop} {lim act dep : Int32} {a1 a2 a3 a4 a5 a6 a7 a8 a9 a10 a11 : Nat → Int32} {set : Int32} {X : Prop} {lo hi : Nat → Int32} (hR : ib_R lim set a1 a2 a3 a4 a5 a6 X lo hi) (hw : ¬ X → ¬ ib_gb a6 lo hi ≤ -10000)
    (hX : X → ∀ b7 b8 b9 b10 : Nat → Int32, post (-10000) (lim, set, 0, a1, a2, a3, a4, a5, a6, b7, b8, b9, b10, a11))
    (hN : ¬ X → ∀ b7 b8 b9 b10 : Nat → Int32, post (ib_gb a6 lo hi) (lim, set, 0, a1, a2, a3, a4, a5, a6, b7, b8, b9, b10, a11)) : wpX_findGreatest post (lim, act, dep, a1, a2, a3, a4, a5, a6, a7, a8, a9, a10, a11) set := by
  unfold wpX_findGreatest
  dsimp only
  refine ib_begin (fun b7 b8 b9 b10 h7 h8 => ?_)
  refine Exists.intro 2 ?_
  refine br_f (by decide) (br_f (show ¬ (1 : Int32) ≤ 0 by decide) ?_)
  refine ib_pop (fun c9 c10 h9 h10 => ?_)
  refine hR.1 _ b7 b8 c9 c10 a11 (ib_eqt h9 h7) (ib_eqt h10 h8) (fun x d9 d10 hE => ?_) (fun x d9 d10 g9 g10 => ?_)
  · exact ib_empty (fun _ => br_f (by decide) (nm_e (ib_fg_end (hX x _ _ _ _)))) (fun z => absurd hE z)
  · obtain ⟨hF, hne⟩ := hR.2 x
    refine ib_empty (fun z => absurd (ib_Ec g9 g10 z) hne) (fun _ => br_t rfl (ib_goal ?_))
    refine hF _ b7 b8 d9 d10 a11 g9 g10 ?_
    rw [ib_gbc g9 g10]
    exact br_f (hw x) (br_f (by decide) (nm_e (ib_fg_end (hN x _ _ _ _))))
/-! the three sets that the law comes by -/
theorem ib_R0 {lim : Int32} {a1 a2 a3 a4 a5 a6 : Nat → Int32} (hE : ¬ ib_E a1 a2) : ib_R lim 0 a1 a2 a3 a4 a5 a6 False a1 a2 :=
  ⟨fun ψ b7 b8 b9 b10 b11 h9 h10 _ hN => ib_all0 (fun z => hE (ib_Ec h9 h10 z)) (hN (fun z => z) b9 b10 h9 h10), fun _ => ⟨fun ψ b7 b8 c9 c10 b11 _ _ h => ib_free0 h, hE⟩⟩
theorem ib_R1 {lim : Int32} {a1 a2 a3 a4 a5 a6 : Nat → Int32} {k : Nat} {g b e : Int32} (hk : k < 3) (hL : ib_L k 0 g b a3 a4) (hg : ¬ g ≤ 0) (hm : a2 0 < a2 0 + 1) (hq : ib_fd b g < ib_fd b g + 1) (hE : ¬ ib_E a1 a2)
    (he : ib_fd b g < a2 k → e = ib_fd b g) (he' : ¬ ib_fd b g < a2 k → a2 k = e) (hs : g * a1 k ≤ b → ¬ e < a1 k ∧ g * e ≤ b) :
    ib_R lim 1 a1 a2 a3 a4 a5 a6 (¬ g * a1 k ≤ b) a1 (upd a2 k e) := by
  refine ⟨fun ψ b7 b8 b9 b10 b11 h9 h10 hX hN => ?_, fun x => ?_⟩
  · have e9 := h9 k hk
    have e10 := h10 k hk
    have hm' : b10 0 < b10 0 + 1 := by
      rw [h10 0 (by omega)]
      exact hm
    refine ib_all1 hk hL hg hm' hq (fun z => hE (ib_Ec h9 h10 z)) (fun z => ?_) (fun z y => ?_) (fun z y => ?_)
    · rw [e9] at z
      exact hX z _ _ (ib_Eu hm')
    · rw [e9] at z
      rw [e10] at y
      exact hN (fun w => w z) _ _ h9 (ib_equ h10 (he y).symm)
    · rw [e9] at z
      rw [e10] at y
      exact hN (fun w => w z) _ _ h9 (ib_eqs h10 (he' y))
  · have x' : g * a1 k ≤ b := Classical.byContradiction x
    refine ⟨fun ψ b7 b8 c9 c10 b11 h9 h10 h => ib_free1 hk hL hg ?_ h, ib_nE hE (hs x').1⟩
    rw [h10 k hk, pk_us]
    exact (hs x').2
theorem ib_R193 {lim : Int32} {a1 a2 a3 a4 a5 a6 : Nat → Int32} {k : Nat} {g b g' b' e : Int32} (hk : k < 3) (hL0 : ib_L k 0 g b a3 a4) (hL6 : ib_L k 6 g b a3 a4) (hL7 : ib_L k 7 g' b' a3 a4) (hg : ¬ g ≤ 0) (hg7 : g' ≤ 0) (hg7' : ¬ -g' ≤ 0) (hm : a2 0 < a2 0 + 1) (hq : ib_fd b g < ib_fd b g + 1) (hE : ¬ ib_E a1 a2)
    (he : ib_fd b g < a2 k → e = ib_fd b g) (he' : ¬ ib_fd b g < a2 k → a2 k = e) (hs : g * a1 k ≤ b → ¬ e < a1 k ∧ g * e ≤ b)
    (hp : g' * ib_fd b g ≤ b' → g * (-ib_fd b' (-g')) ≤ b) (h7 : g' * e ≤ b' ↔ g * e = b) (h8 : g * e = b → -ib_fd b' (-g') = e) :
    ib_R lim 193 a1 a2 a3 a4 a5 a6 (¬ (g * a1 k ≤ b ∧ g * e = b)) (upd a1 k e) (upd a2 k e) := by
  refine ⟨fun ψ b7 b8 b9 b10 b11 h9 h10 hX hN => ?_, fun x => ?_⟩
  · have e9 := h9 k hk
    have e10 := h10 k hk
    have hm' : b10 0 < b10 0 + 1 := by
      rw [h10 0 (by omega)]
      exact hm
    have anti : ∀ x y : Int32, ¬ x < y → ¬ y < x → x = y := fun x y p q => Int32.le_antisymm (Int32.not_lt.mp q) (Int32.not_lt.mp p)
    refine ib_all193 hk hL0 hL6 hL7 hg hg7 hg7' hm' hq (fun z => hE (ib_Ec h9 h10 z)) (fun z y => ?_) hp (fun c9 c10 hc t => ?_) (fun z y w v => ?_) (fun z y w v => ?_) (fun z y w v => ?_) (fun z y w v => ?_)
    · rw [e9] at z
      rw [e10] at y
      refine ib_nE (fun t => hE (ib_Ec h9 h10 t)) ?_
      rw [e9, ← he y]
      exact (hs z).1
    · refine hX (fun ⟨t1, t2⟩ => ?_) c9 c10 hc
      rcases t with t | ⟨y, t⟩ | ⟨y, t⟩
      · rw [e9] at t
        exact t t1
      · rw [e10] at y
        rw [← he y] at t
        exact t (h7.mpr t2)
      · rw [e10] at y
        rw [e10, he' y] at t
        exact t (h7.mpr t2)
    · rw [e9] at z
      rw [e10] at y
      rw [← he y] at w
      exact hN (fun t => t ⟨z, h7.mp w⟩) _ _ (ib_equ h9 (h8 (h7.mp w))) (ib_equ h10 (he y).symm)
    · rw [e9] at z
      rw [e10] at y
      rw [← he y] at w
      rw [e9, h8 (h7.mp w)] at v
      exact hN (fun t => t ⟨z, h7.mp w⟩) _ _ (ib_eqs h9 (anti _ _ v (hs z).1)) (ib_equ h10 (he y).symm)
    · rw [e9] at z
      rw [e10] at y
      rw [e10, he' y] at w
      refine ⟨?_, hN (fun t => t ⟨z, h7.mp w⟩) _ _ (ib_equ h9 (h8 (h7.mp w))) (ib_eqs h10 (he' y))⟩
      rw [h8 (h7.mp w)]
      exact (hs z).2
    · rw [e9] at z
      rw [e10] at y
      rw [e10, he' y] at w
      rw [e9, h8 (h7.mp w)] at v
      exact hN (fun t => t ⟨z, h7.mp w⟩) _ _ (ib_eqs h9 (anti _ _ v (hs z).1)) (ib_eqs h10 (he' y))
  · obtain ⟨x1, x2⟩ := Classical.byContradiction x
    refine ⟨fun ψ b7 b8 c9 c10 b11 h9 h10 h => ib_free193 hk hL0 hL6 hL7 hg hg7 ?_ ?_ h, ib_nE2 hE⟩
    · rw [h10 k hk, pk_us]
      exact (hs x1).2
    · rw [h9 k hk, pk_us]
      exact h7.mpr x2
end
section
theorem ib_bad {post : Int32 → Prop} {u : St0} {k : Nat} (hk : k < 3) (h : post 0) : wpX_badVariable post u (nI k) :=
  pk_lt k 0 (fun z => absurd z (by omega)) (fun _ => pk_lt k 3 (fun _ => h) (fun z => absurd z (by omega)))
theorem ib_lon {post : Int32 → Prop} {act dep : Int32} {a1 a2 a3 a4 a5 a6 a7 a8 a9 a10 a11 : Nat → Int32} (h5 : a5 0 = 1) (h : post 1) : wpX_limitsOn post (1, act, dep, a1, a2, a3, a4, a5, a6, a7, a8, a9, a10, a11) := by
  unfold wpX_limitsOn
  dsimp only
  refine ⟨2, br_f (by decide) ⟨pk_in 0 6 (by omega), br_f ?_ (nm_r (e' := 1) (by decide) (nm_r (e' := 1) (by decide) (br_t (by decide) h)))⟩⟩
  rw [sb_cl0, h5]
  decide
theorem ib_noL {post : Int32 → Prop} {act dep : Int32} {a1 a2 a3 a4 a5 a6 a7 a8 a9 a10 a11 : Nat → Int32} (h : post 0) : wpX_noLimit post (1, act, dep, a1, a2, a3, a4, a5, a6, a7, a8, a9, a10, a11) 0 :=
  br_f (by decide) (br_t (by decide) h)
theorem ib_points {post : Int32 → St2 → Prop} {act dep : Int32} {a1 a2 a3 a4 a5 a6 a7 a8 a9 a10 a11 : Nat → Int32} {X : Prop} {lo hi : Nat → Int32} (h5 : a5 0 = 1) (hR : ib_R 1 1 a1 a2 a3 a4 a5 a6 X lo hi)
    (hX : X → ∀ (p q : Int32) (b7 b8 b9 b10 b11 : Nat → Int32), post 0 (1, p, q, a1, a2, a3, a4, a5, a6, b7, b8, b9, b10, b11))
    (hN : ¬ X → ∀ (p q : Int32) (b7 b8 b9 b10 b11 : Nat → Int32), post (ib_vol lo hi) (1, p, q, a1, a2, a3, a4, a5, a6, b7, b8, b9, b10, b11)) : wpX_points post (1, act, dep, a1, a2, a3, a4, a5, a6, a7, a8, a9, a10, a11) := by
  unfold wpX_points
  dsimp only
  refine ib_lon h5 ?_
  exact ib_cp hR (fun x _ _ _ _ => hX x _ _ _ _ _ _ _) (fun x _ _ _ _ => hN x _ _ _ _ _ _ _)
theorem ib_first {post : Int32 → St2 → Prop} {act dep : Int32} {a1 a2 a3 a4 a5 a6 a7 a8 a9 a10 a11 : Nat → Int32} {k : Nat} {X : Prop} {lo hi : Nat → Int32} (hk : k < 3) (h5 : a5 0 = 1) (hR : ib_R 1 1 a1 a2 a3 a4 a5 a6 X lo hi)
    (hX : X → ∀ (p q : Int32) (b7 b8 b9 b10 b11 : Nat → Int32), post (-10000) (1, p, q, a1, a2, a3, a4, a5, a6, b7, b8, b9, b10, b11))
    (hN : ¬ X → ∀ (p q : Int32) (b7 b8 b9 b10 b11 : Nat → Int32), post (lo k) (1, p, q, a1, a2, a3, a4, a5, a6, b7, b8, b9, b10, b11)) : wpX_first post (1, act, dep, a1, a2, a3, a4, a5, a6, a7, a8, a9, a10, a11) (nI k) := by
  unfold wpX_first
  dsimp only
  refine ib_bad hk (br_t rfl ?_)
  refine ib_lon h5 ?_
  refine ib_ff hR (fun x _ _ _ _ => br_t rfl (hX x _ _ _ _ _ _ _)) (fun x b7 b8 b9 b10 b11 h11 => br_f (by decide) ⟨pk_in k 3 hk, ?_⟩)
  dsimp only
  rw [nI_clamp (show k < 2 ^ 31 by omega), h11 k hk]
  exact hN x _ _ _ _ _ _ _
theorem ib_bf_v {post : Int32 → Prop} {p0 : Int32} {n : Nat} (v : Nat) (hv : v < 3) (hf : ((p0 >>> ((4 * nI v) &&& 31)) &&& 15) - 5 ≤ 5) (h : wX_badFactors_2 post p0 n (nI (v + 1))) : wX_badFactors_2 post p0 (n + 1) (nI v) :=
  pk_le 3 v (fun z => absurd z (by omega)) (fun _ => br_t hf (nm_r (nI_1 v) h))
theorem ib_badF {post : Int32 → Prop} {u : St0} {p0 : Int32} (hf : ∀ v, v < 3 → ((p0 >>> ((4 * nI v) &&& 31)) &&& 15) - 5 ≤ 5) (h : post 0) : wpX_badFactors post u p0 :=
  ⟨4, ib_bf_v 0 (by omega) (hf 0 (by omega)) (ib_bf_v 1 (by omega) (hf 1 (by omega)) (ib_bf_v 2 (by omega) (hf 2 (by omega)) (pk_le 3 3 (fun _ => h) (fun z => absurd z (by omega)))))⟩
theorem ib_gr_v {post : Int32 → St2 → Prop} {lim act dep : Int32} {a1 a2 a3 a4 a5 a6 a7 a8 a9 a10 a11 : Nat → Int32} {p0 : Int32} {n : Nat} {F : Nat → Int32} (v : Nat) (hv : v < 3) (hf : ((p0 >>> ((4 * nI v) &&& 31)) &&& 15) - 5 = F v) (h : wX_greatest_12 post p0 lim act dep n (nI (v + 1)) a1 a2 a3 a4 a5 (upd a6 v (F v)) a7 a8 a9 a10 a11) : wX_greatest_12 post p0 lim act dep (n + 1) (nI v) a1 a2 a3 a4 a5 a6 a7 a8 a9 a10 a11 := by
  have c : (nI v).toNatClampNeg = v := nI_clamp (by omega)
  refine pk_le 3 v (fun z => absurd z (by omega)) (fun _ => ?_)
  unfold wpX_factorOf
  rw [c, hf]
  exact ⟨pk_in v 3 hv, nm_e (nm_r (nI_1 v) h)⟩
theorem ib_great {post : Int32 → St2 → Prop} {act dep : Int32} {a1 a2 a3 a4 a5 a6 a7 a8 a9 a10 a11 : Nat → Int32} {p0 : Int32} {F : Nat → Int32} {X : Prop} {lo hi : Nat → Int32} (h5 : a5 0 = 1) (hR : ∀ b6 : Nat → Int32, ib_R 1 1 a1 a2 a3 a4 a5 b6 X lo hi)
    (hf : ∀ v, v < 3 → ((p0 >>> ((4 * nI v) &&& 31)) &&& 15) - 5 = F v) (hb : ∀ v, v < 3 → F v ≤ 5) (hw : ¬ X → ¬ ib_gb F lo hi ≤ -10000)
    (hX : X → ∀ (p q : Int32) (b6 b7 b8 b9 b10 b11 : Nat → Int32), post (-10000) (1, p, q, a1, a2, a3, a4, a5, b6, b7, b8, b9, b10, b11))
    (hN : ¬ X → ∀ (p q : Int32) (b6 b7 b8 b9 b10 b11 : Nat → Int32), post (ib_gb F lo hi) (1, p, q, a1, a2, a3, a4, a5, b6, b7, b8, b9, b10, b11)) : wpX_greatest post (1, act, dep, a1, a2, a3, a4, a5, a6, a7, a8, a9, a10, a11) p0 := by
  unfold wpX_greatest
  dsimp only
  refine ib_badF (fun v hv => by rw [hf v hv]; exact hb v hv) (br_t rfl ?_)
  refine Exists.intro 4 (ib_gr_v 0 (by omega) (hf 0 (by omega)) (ib_gr_v 1 (by omega) (hf 1 (by omega)) (ib_gr_v 2 (by omega) (hf 2 (by omega)) (pk_le 3 3 (fun _ => ?_) (fun z => absurd z (by omega))))))
  refine ib_lon h5 ?_
  have e : ib_gb (upd (upd (upd a6 0 (F 0)) 1 (F 1)) 2 (F 2)) lo hi = ib_gb F lo hi := by simp [ib_gb, upd]
  refine ib_fg (hR _) (fun x => ?_) (fun x _ _ _ _ => hX x _ _ _ _ _ _ _ _) (fun x b7 b8 b9 b10 => ?_)
  · rw [e]
    exact hw x
  · rw [e]
    exact hN x _ _ _ _ _ _ _ _
theorem ib_idle {post : Int32 → St2 → Prop} {act dep : Int32} {a1 a2 a3 a4 a5 a6 a7 a8 a9 a10 a11 : Nat → Int32} {X : Prop} {lo hi : Nat → Int32} (h5 : a5 0 = 1) (hR : ib_R 1 1 a1 a2 a3 a4 a5 a6 X lo hi) (hE : ¬ ib_E a1 a2)
    (h : ∀ w : Int32, (X → w = 0) → (¬ X → w = ib_vol lo hi) → ∀ (p q : Int32) (b7 b8 b9 b10 b11 : Nat → Int32), (w = ib_vol a1 a2 → post 1 (1, p, q, a1, a2, a3, a4, a5, a6, b7, b8, b9, b10, b11)) ∧ (¬ w = ib_vol a1 a2 → post 0 (1, p, q, a1, a2, a3, a4, a5, a6, b7, b8, b9, b10, b11))) :
    wpX_idle post (1, act, dep, a1, a2, a3, a4, a5, a6, a7, a8, a9, a10, a11) 0 := by
  have e : ((1 : Int32) &&& (((1 : Int32) <<< ((0 : Int32) &&& 31)) ^^^ (-1))) = 0 := by decide
  unfold wpX_idle
  dsimp only
  refine ib_noL (br_t rfl ⟨pk_in 0 6 (by omega), br_f ?_ ?_⟩)
  · rw [sb_cl0, h5]
    decide
  · refine ib_lon h5 ?_
    rw [e]
    refine ib_cp hR (fun x b7 b8 b9 b10 => ?_) (fun x b7 b8 b9 b10 => ?_)
    · exact ib_cp (ib_R0 hE) (fun z => absurd z (fun t => t)) (fun _ c7 c8 c9 c10 => h 0 (fun _ => rfl) (fun t => absurd x t) _ _ _ _ _ _ _)
    · exact ib_cp (ib_R0 hE) (fun z => absurd z (fun t => t)) (fun _ c7 c8 c9 c10 => h _ (fun t => absurd t x) (fun _ => rfl) _ _ _ _ _ _ _)
/-! numbers -/
theorem ib_nm0 : ∀ l, l < 17 → ∀ x, x < 17 → l ≤ x → nI (2 ^ x - 2 ^ l) ||| ((1 : Int32) <<< (nI x &&& 31)) = nI (2 ^ (x + 1) - 2 ^ l) := by decide +kernel
theorem ib_nm1 : ∀ l, l < 17 → ∀ e, e < 18 → l ≤ e → ((1 : Int32) <<< (nI e &&& 31)) - ((1 : Int32) <<< (nI l &&& 31)) = nI (2 ^ e - 2 ^ l) := by decide +kernel
theorem ib_numl {post : Int32 → St2 → Prop} {a3 a4 a5 a6 : Nat → Int32} {k l en : Nat} {g b : Int32} (hk : k < 3) (hl : l < 17) (hle : l ≤ en) (hen : en ≤ 17) (hL : ib_L k 0 g b a3 a4) (hg : ¬ g ≤ 0) (hq : ib_fd b g < ib_fd b g + 1)
    (hs : ∀ x : Nat, l ≤ x → x < 17 → (g * ib_z ((x : Int) - 8) ≤ b ↔ x < en) ∧ (g * ib_z ((x : Int) - 8) ≤ b → ¬ ib_fd b g < ib_z ((x : Int) - 8)))
    (h : ∀ (p q : Int32) (a1 a2 a7 a8 a9 a10 a11 : Nat → Int32), (∀ j, j < 3 → a1 j = if j = k then ib_z ((l : Int) - 8) else -8) → (∀ j, j < 3 → a2 j = 8) → post (nI (2 ^ en - 2 ^ l)) (1, p, q, a1, a2, a3, a4, a5, a6, a7, a8, a9, a10, a11)) :
    ∀ (d x : Nat), x + d = 17 → l ≤ x → ∀ (act dep : Int32) (a1 a2 a7 a8 a9 a10 a11 : Nat → Int32), (∀ j, j < 3 → j ≠ k → a1 j = -8) → (∀ j, j < 3 → j ≠ k → a2 j = 8) →
      wX_numbers_35 post (nI k) 1 (ib_z ((l : Int) - 8)) 8 (d + 1) (nI (2 ^ (min x en) - 2 ^ l)) (ib_z ((x : Int) - 8)) 1 act dep a1 a2 a3 a4 a5 a6 a7 a8 a9 a10 a11 := by
  have ck : (nI k).toNatClampNeg = k := nI_clamp (by omega)
  have e8 : (8 : Int32) = ib_z 8 := rfl
  intro d
  induction d with
  | zero =>
    intro x hx hlx act dep a1 a2 a7 a8 a9 a10 a11 h1 h2
    have hx' : x = 17 := by omega
    subst hx'
    rw [show min 17 en = en by omega]
    refine br_t (by decide) ⟨pk_in k 3 hk, nm_e ⟨pk_in k 3 hk, nm_e ?_⟩⟩
    rw [ck]
    refine h _ _ _ _ _ _ _ _ _ (fun j hj => ?_) (fun j hj => ?_)
    · by_cases e : j = k
      · rw [e, pk_us, if_pos rfl]
      · rw [pk_un e, if_neg e]
        exact h1 j hj e
    · by_cases e : j = k
      · rw [e, pk_us]
      · rw [pk_un e]
        exact h2 j hj e
  | succ d ih =>
    intro x hx hlx act dep a1 a2 a7 a8 a9 a10 a11 h1 h2
    have hz : ¬ (8 : Int32) < ib_z ((x : Int) - 8) := by
      rw [e8, ib_zlt (by omega) (by omega) (by omega) (by omega)]
      omega
    have hn : ib_z ((x : Int) - 8) + 1 = ib_z (((x + 1 : Nat) : Int) - 8) := by
      rw [show (1 : Int32) = ib_z 1 from rfl, ib_zadd, show ((x : Int) - 8 + 1) = (((x + 1 : Nat) : Int) - 8) by omega]
    have h8 : ib_z ((x : Int) - 8) + 8 = nI x := by
      rw [e8, ib_zadd, show ((x : Int) - 8 + 8) = (x : Int) by omega, ib_zn]
    obtain ⟨s1, s2⟩ := hs x hlx (by omega)
    refine br_f hz ⟨pk_in k 3 hk, nm_e ⟨pk_in k 3 hk, nm_e ?_⟩⟩
    rw [ck]
    have u1 : ∀ j, j < 3 → j ≠ k → upd a1 k (ib_z ((x : Int) - 8)) j = -8 := fun j hj e => by rw [pk_un e]; exact h1 j hj e
    have u2 : ∀ j, j < 3 → j ≠ k → upd a2 k (ib_z ((x : Int) - 8)) j = 8 := fun j hj e => by rw [pk_un e]; exact h2 j hj e
    have hm : upd a2 k (ib_z ((x : Int) - 8)) 0 < upd a2 k (ib_z ((x : Int) - 8)) 0 + 1 := by
      by_cases e : 0 = k
      · rw [← e, pk_us]
        exact ib_s1 (by omega) (by omega)
      · rw [u2 0 (by omega) e]
        decide
    have hE : ¬ ib_E (upd a1 k (ib_z ((x : Int) - 8))) (upd a2 k (ib_z ((x : Int) - 8))) := by
      rintro ⟨j, hj, hz⟩
      by_cases e : j = k
      · rw [e, pk_us, pk_us] at hz
        exact Int32.lt_irrefl hz
      · rw [u1 j hj e, u2 j hj e] at hz
        exact absurd hz (by decide)
    have p1 : upd a1 k (ib_z ((x : Int) - 8)) k = ib_z ((x : Int) - 8) := pk_us
    have p2 : upd a2 k (ib_z ((x : Int) - 8)) k = ib_z ((x : Int) - 8) := pk_us
    have R := ib_R1 (lim := 1) (a5 := a5) (a6 := a6) (e := if ib_fd b g < ib_z ((x : Int) - 8) then ib_fd b g else ib_z ((x : Int) - 8)) hk hL hg hm hq hE
      (by rw [p2]; intro z; rw [if_pos z]) (by rw [p2]; intro z; rw [if_neg z])
      (by rw [p1]; intro z; rw [if_neg (s2 z)]; exact ⟨Int32.lt_irrefl, z⟩)
    rw [p1] at R
    refine ib_ff R (fun z b7 b8 b9 b10 => ?_) (fun z b7 b8 b9 b10 b11 h11 => ?_)
    · have hx2 : ¬ x < en := fun t => z (s1.mpr t)
      refine br_t rfl (nm_r hn ?_)
      have t := ih (x + 1) (by omega) (by omega) 1 0 _ _ b7 b8 b9 b10 a11 u1 u2
      rw [show min (x + 1) en = min x en by omega] at t
      exact t
    · have hx2 : x < en := s1.mp (Classical.byContradiction z)
      refine br_f (by decide) (nm_r (e' := nI (2 ^ (min (x + 1) en) - 2 ^ l)) ?_ (nm_r hn ?_))
      · rw [h8, show min (x + 1) en = x + 1 by omega, show min x en = x by omega]
        exact ib_nm0 l hl x (by omega) hlx
      · exact ih (x + 1) (by omega) (by omega) 1 0 _ _ b7 b8 b9 b10 b11 u1 u2
theorem ib_nums {post : Int32 → St2 → Prop} {act dep : Int32} {a1 a2 a3 a4 a5 a6 a7 a8 a9 a10 a11 : Nat → Int32} {k l en : Nat} {g b : Int32} (hk : k < 3) (hl : l < 17) (hle : l ≤ en) (hen : en ≤ 17) (h5 : a5 0 = 1) (hL : ib_L k 0 g b a3 a4) (hg : ¬ g ≤ 0) (hq : ib_fd b g < ib_fd b g + 1)
    (h1 : ∀ j, j < 3 → a1 j = if j = k then ib_z ((l : Int) - 8) else -8) (h2 : ∀ j, j < 3 → a2 j = 8)
    (hs : ∀ x : Nat, l ≤ x → x < 17 → (g * ib_z ((x : Int) - 8) ≤ b ↔ x < en) ∧ (g * ib_z ((x : Int) - 8) ≤ b → ¬ ib_fd b g < ib_z ((x : Int) - 8)))
    (h : ∀ (p q : Int32) (a1 a2 a7 a8 a9 a10 a11 : Nat → Int32), (∀ j, j < 3 → a1 j = if j = k then ib_z ((l : Int) - 8) else -8) → (∀ j, j < 3 → a2 j = 8) → post (nI (2 ^ en - 2 ^ l)) (1, p, q, a1, a2, a3, a4, a5, a6, a7, a8, a9, a10, a11)) :
    wpX_numbers post (1, act, dep, a1, a2, a3, a4, a5, a6, a7, a8, a9, a10, a11) (nI k) := by
  have ck : (nI k).toNatClampNeg = k := nI_clamp (by omega)
  unfold wpX_numbers
  dsimp only
  refine ib_bad hk (br_t rfl ?_)
  refine ib_lon h5 ?_
  rw [ck]
  refine ⟨pk_in k 3 hk, nm_r (h1 k hk) ⟨pk_in k 3 hk, nm_r (h2 k hk) ?_⟩⟩
  rw [if_pos rfl]
  refine ⟨17 - l + 1, ?_⟩
  have t := ib_numl hk hl hle hen hL hg hq hs h (17 - l) l (by omega) (Nat.le_refl l) act dep a1 a2 a7 a8 a9 a10 a11 (fun j hj e => by rw [h1 j hj, if_neg e]) (fun j hj _ => h2 j hj)
  rw [show min l en = l by omega, Nat.sub_self] at t
  exact t
end
section
/-! tight -/
theorem ib_ti_v {post : Int32 → St2 → Prop} {lim act dep : Int32} {a1 a2 a3 a4 a5 a6 a7 a8 a9 a10 a11 : Nat → Int32} {n : Nat} (v : Nat) (hv : v < 3) (h : wX_tight_13 post (nI 0) lim act dep n (nI (v + 1)) a1 a2 (upd (upd a3 (18 + v) (a3 v)) (21 + v) (-(a3 v))) a4 a5 a6 a7 a8 a9 a10 a11) : wX_tight_13 post (nI 0) lim act dep (n + 1) (nI v) a1 a2 a3 a4 a5 a6 a7 a8 a9 a10 a11 := by
  have c : (nI v).toNatClampNeg = v := nI_clamp (by omega)
  have e18 : 18 + nI v = nI (18 + v) := by rw [show (18 : Int32) = nI 18 from rfl, nI_add]
  have e21 : 21 + nI v = nI (21 + v) := by rw [show (21 : Int32) = nI 21 from rfl, nI_add]
  have c18 : (nI (18 + v)).toNatClampNeg = 18 + v := nI_clamp (by omega)
  have c21 : (nI (21 + v)).toNatClampNeg = 21 + v := nI_clamp (by omega)
  have u : upd a3 (18 + v) (a3 v) v = a3 v := pk_un (by omega)
  refine pk_le 3 v (fun z => absurd z (by omega)) (fun _ => ?_)
  rw [ib_i0, e18, e21, c, c18, c21]
  refine ⟨pk_in v 24 (by omega), pk_in (18 + v) 24 (by omega), nm_e ⟨pk_in v 24 (by omega), pk_in (21 + v) 24 (by omega), nm_r ?_ (nm_r (nI_1 v) h)⟩⟩
  rw [u]
def ib_t1 (a3 : Nat → Int32) (v : Nat) : Nat → Int32 := upd (upd a3 (18 + v) (a3 v)) (21 + v) (-(a3 v))
def ib_t3 (a3 : Nat → Int32) : Nat → Int32 := ib_t1 (ib_t1 (ib_t1 a3 0) 1) 2
theorem ib_t3a (a3 : Nat → Int32) : ∀ j, j < 3 → ib_t3 a3 j = a3 j ∧ ib_t3 a3 (18 + j) = a3 j ∧ ib_t3 a3 (21 + j) = -(a3 j) := by
  intro j hj
  rcases (show j = 0 ∨ j = 1 ∨ j = 2 by omega) with rfl | rfl | rfl
  · simp [ib_t3, ib_t1, upd]
  · simp [ib_t3, ib_t1, upd]
  · simp [ib_t3, ib_t1, upd]
def ib_t4 (a4 : Nat → Int32) : Nat → Int32 := upd (upd a4 6 (a4 0)) 7 (-(a4 0))
theorem ib_tL {k : Nat} {g b : Int32} {a3 a4 : Nat → Int32} (h : ib_L k 0 g b a3 a4) : ib_L k 0 g b (ib_t3 a3) (ib_t4 a4) ∧ ib_L k 6 g b (ib_t3 a3) (ib_t4 a4) ∧ ib_L k 7 (-g) (-b) (ib_t3 a3) (ib_t4 a4) := by
  have h0 : ∀ j, j < 3 → a3 j = if j = k then g else 0 := by
    intro j hj
    have t := h.1 j hj
    rw [Nat.zero_mul, Nat.zero_add] at t
    exact t
  have hb : a4 0 = b := h.2
  refine ⟨⟨fun j hj => ?_, ?_⟩, ⟨fun j hj => ?_, ?_⟩, ⟨fun j hj => ?_, ?_⟩⟩
  · rw [Nat.zero_mul, Nat.zero_add, (ib_t3a a3 j hj).1]
    exact h0 j hj
  · simp [ib_t4, upd, hb]
  · rw [show 6 * 3 + j = 18 + j by omega, (ib_t3a a3 j hj).2.1]
    exact h0 j hj
  · simp [ib_t4, upd, hb]
  · rw [show 7 * 3 + j = 21 + j by omega, (ib_t3a a3 j hj).2.2, h0 j hj]
    by_cases e : j = k
    · rw [if_pos e, if_pos e]
    · rw [if_neg e, if_neg e]
      decide
  · simp [ib_t4, upd, hb]
theorem ib_tight {post : Int32 → St2 → Prop} {act dep : Int32} {a1 a2 a3 a4 a5 a6 a7 a8 a9 a10 a11 : Nat → Int32} {k : Nat} {g b : Int32} {X : Prop} {lo hi : Nat → Int32} (h5 : a5 0 = 1) (hL : ib_L k 0 g b a3 a4)
    (hR : ∀ b3 b4 : Nat → Int32, ib_L k 0 g b b3 b4 → ib_L k 6 g b b3 b4 → ib_L k 7 (-g) (-b) b3 b4 → ib_R 1 193 a1 a2 b3 b4 a5 a6 X lo hi)
    (hX : X → ∀ (p q : Int32) (b3 b4 b7 b8 b9 b10 b11 : Nat → Int32), ib_L k 0 g b b3 b4 → post 0 (1, p, q, a1, a2, b3, b4, a5, a6, b7, b8, b9, b10, b11))
    (hN : ¬ X → ∀ (p q : Int32) (b3 b4 b7 b8 b9 b10 b11 : Nat → Int32), ib_L k 0 g b b3 b4 → post (ib_vol lo hi) (1, p, q, a1, a2, b3, b4, a5, a6, b7, b8, b9, b10, b11)) : wpX_tight post (1, act, dep, a1, a2, a3, a4, a5, a6, a7, a8, a9, a10, a11) 0 := by
  have c0 : (nI 0).toNatClampNeg = 0 := nI_clamp (by omega)
  obtain ⟨L0, L6, L7⟩ := ib_tL hL
  have u : upd a4 6 (a4 0) 0 = a4 0 := pk_un (by omega)
  have e : ((1 : Int32) ||| 192) = 193 := by decide
  unfold wpX_tight
  dsimp only
  refine ib_noL (br_t rfl ?_)
  refine Exists.intro 4 (ib_ti_v 0 (by omega) (ib_ti_v 1 (by omega) (ib_ti_v 2 (by omega) (pk_le 3 3 (fun _ => ?_) (fun z => absurd z (by omega))))))
  refine ⟨pk_in 0 8 (by omega), nm_r (e' := upd a4 6 (a4 0)) (by rw [c0]) ⟨pk_in 0 8 (by omega), nm_r (e' := ib_t4 a4) (by rw [c0, u]; rfl) ?_⟩⟩
  refine ib_lon h5 ?_
  rw [e]
  exact ib_cp (hR _ _ L0 L6 L7) (fun x _ _ _ _ => hX x _ _ _ _ _ _ _ _ _ L0) (fun x _ _ _ _ => hN x _ _ _ _ _ _ _ _ _ L0)
/-! core -/
def ib_bc (x : Int32) : Int32 := (((((0 + ((x >>> (nI 0 &&& 31)) &&& 1)) + ((x >>> (nI 1 &&& 31)) &&& 1)) + ((x >>> (nI 2 &&& 31)) &&& 1)) + ((x >>> (nI 3 &&& 31)) &&& 1)) + ((x >>> (nI 4 &&& 31)) &&& 1)) + ((x >>> (nI 5 &&& 31)) &&& 1)
theorem ib_bi_v {post : Int32 → Prop} {x0 x1 : Int32} {n : Nat} (v : Nat) (hv : v < 6) (h : wX_bits_4 post x0 n (x1 + ((x0 >>> (nI v &&& 31)) &&& 1)) (nI (v + 1))) : wX_bits_4 post x0 (n + 1) x1 (nI v) :=
  pk_le 6 v (fun z => absurd z (by omega)) (fun _ => nm_e (nm_r (nI_1 v) h))
theorem ib_bits {post : Int32 → Prop} {u : St0} {x : Int32} (h : post (ib_bc x)) : wpX_bits post u x :=
  ⟨7, ib_bi_v 0 (by omega) (ib_bi_v 1 (by omega) (ib_bi_v 2 (by omega) (ib_bi_v 3 (by omega) (ib_bi_v 4 (by omega) (ib_bi_v 5 (by omega) (pk_le 6 6 (fun _ => h) (fun z => absurd z (by omega))))))))⟩
theorem ib_c0 : ∀ i, i < 64 → nI i &&& ((1 : Int32) ^^^ (-1)) = 0 → ¬ (1 : Int32) ≤ ib_bc (nI i) → i = 0 := by decide +kernel
theorem ib_corel {post : Int32 → St2 → Prop} {a1 a2 a3 a4 a5 a6 : Nat → Int32} (hE : ¬ ib_E a1 a2) (h : ∀ (p q : Int32) (b7 b8 b9 b10 b11 : Nat → Int32), post 1 (1, p, q, a1, a2, a3, a4, a5, a6, b7, b8, b9, b10, b11)) :
    ∀ (d i : Nat), i + d = 64 → ∀ (act dep : Int32) (a7 a8 a9 a10 a11 : Nat → Int32), wX_core_27 post 1 (d + 1) 1 (nI i) 1 act dep a1 a2 a3 a4 a5 a6 a7 a8 a9 a10 a11 := by
  intro d
  induction d with
  | zero =>
    intro i hi act dep a7 a8 a9 a10 a11
    have hi' : i = 64 := by omega
    subst hi'
    exact pk_le 64 64 (fun _ => h _ _ _ _ _ _ _) (fun z => absurd z (by omega))
  | succ d ih =>
    intro i hi act dep a7 a8 a9 a10 a11
    refine pk_le 64 i (fun z => absurd z (by omega)) (fun _ => ib_bits (br_c (fun z => br_c (fun _ => nm_r (nI_1 i) (ih (i + 1) (by omega) _ _ _ _ _ _ _)) (fun y => ?_)) (fun _ => nm_r (nI_1 i) (ih (i + 1) (by omega) _ _ _ _ _ _ _))))
    have e := ib_c0 i (by omega) z y
    subst e
    exact ib_ff (set := 0) (ib_R0 hE) (fun t => absurd t (fun t => t)) (fun _ b7 b8 b9 b10 b11 _ => br_f (by decide) (nm_r (nI_1 0) (ih 1 (by omega) _ _ _ _ _ _ _)))
theorem ib_core {post : Int32 → St2 → Prop} {act dep : Int32} {a1 a2 a3 a4 a5 a6 a7 a8 a9 a10 a11 : Nat → Int32} {X : Prop} {lo hi : Nat → Int32} (h5 : a5 0 = 1) (hR : ib_R 1 1 a1 a2 a3 a4 a5 a6 X lo hi) (hE : ¬ ib_E a1 a2)
    (hX : X → ∀ (p q : Int32) (b7 b8 b9 b10 b11 : Nat → Int32), post 1 (1, p, q, a1, a2, a3, a4, a5, a6, b7, b8, b9, b10, b11))
    (hN : ¬ X → ∀ (p q : Int32) (b7 b8 b9 b10 b11 : Nat → Int32), post (-10000) (1, p, q, a1, a2, a3, a4, a5, a6, b7, b8, b9, b10, b11)) : wpX_core post (1, act, dep, a1, a2, a3, a4, a5, a6, a7, a8, a9, a10, a11) := by
  unfold wpX_core
  dsimp only
  refine ib_lon h5 ?_
  refine ib_ff hR (fun x b7 b8 b9 b10 => br_t rfl ?_) (fun x b7 b8 b9 b10 b11 _ => br_f (by decide) (hN x _ _ _ _ _ _ _))
  refine ib_bits ?_
  rw [show ib_bc 1 = 1 from by decide]
  exact ⟨65, ib_corel hE (hX x) 64 0 rfl _ _ _ _ _ _ _⟩
/-! range, limit, the maker -/
theorem ib_range {post : Int32 → St2 → Prop} {lim act dep : Int32} {a1 a2 a3 a4 a5 a6 a7 a8 a9 a10 a11 : Nat → Int32} {k : Nat} {p1 : Int32} (hk : k < 3) (h1 : ¬ p1 < -8) (h2 : ¬ 8 < p1) (h : post ((8 - p1) + 1) (lim, act, dep, (upd a1 k p1), (upd a2 k 8), a3, a4, a5, a6, a7, a8, a9, a10, a11)) : wpX_range post (lim, act, dep, a1, a2, a3, a4, a5, a6, a7, a8, a9, a10, a11) (nI k) p1 8 := by
  have ck : (nI k).toNatClampNeg = k := nI_clamp (by omega)
  unfold wpX_range
  dsimp only
  refine ib_bad hk (br_t rfl (br_f h1 (br_f h2 (br_t (by decide) ⟨pk_in k 3 hk, nm_e ⟨pk_in k 3 hk, nm_e ?_⟩⟩))))
  rw [ck]
  exact h
theorem ib_sl_v {post : St2 → Prop} {lim act dep : Int32} {a1 a2 a3 a4 a5 a6 a7 a8 a9 a10 a11 : Nat → Int32} {p1 p2 : Int32} {n : Nat} {F : Nat → Int32} (v : Nat) (hv : v < 3) (hf : ((p1 >>> ((4 * nI v) &&& 31)) &&& 15) - 5 = F v) (h : wX_setLimit_3 post (nI 0) p1 p2 lim act dep n (nI (v + 1)) a1 a2 (upd a3 v (F v)) a4 a5 a6 a7 a8 a9 a10 a11) : wX_setLimit_3 post (nI 0) p1 p2 lim act dep (n + 1) (nI v) a1 a2 a3 a4 a5 a6 a7 a8 a9 a10 a11 := by
  have c : (nI v).toNatClampNeg = v := nI_clamp (by omega)
  refine pk_le 3 v (fun z => absurd z (by omega)) (fun _ => ?_)
  unfold wpX_factorOf
  rw [ib_i0, c, hf]
  exact ⟨pk_in v 24 (by omega), nm_e (nm_r (nI_1 v) h)⟩
theorem ib_setL {post : St2 → Prop} {lim act dep : Int32} {a1 a2 a3 a4 a5 a6 a7 a8 a9 a10 a11 : Nat → Int32} {p1 p2 : Int32} {F : Nat → Int32} (hf : ∀ v, v < 3 → ((p1 >>> ((4 * nI v) &&& 31)) &&& 15) - 5 = F v) (h : post (lim, act, dep, a1, a2, (upd (upd (upd a3 0 (F 0)) 1 (F 1)) 2 (F 2)), (upd a4 0 p2), a5, a6, a7, a8, a9, a10, a11)) : wpX_setLimit post (lim, act, dep, a1, a2, a3, a4, a5, a6, a7, a8, a9, a10, a11) (nI 0) p1 p2 := by
  have c : (nI 0).toNatClampNeg = 0 := nI_clamp (by omega)
  unfold wpX_setLimit
  dsimp only
  refine ⟨4, ib_sl_v 0 (by omega) (hf 0 (by omega)) (ib_sl_v 1 (by omega) (hf 1 (by omega)) (ib_sl_v 2 (by omega) (hf 2 (by omega)) (pk_le 3 3 (fun _ => ⟨pk_in 0 8 (by omega), nm_r ?_ h⟩) (fun z => absurd z (by omega)))))⟩
  rw [c]
theorem ib_limit {post : Int32 → St2 → Prop} {act dep : Int32} {a1 a2 a3 a4 a5 a6 a7 a8 a9 a10 a11 : Nat → Int32} {p0 p1 : Int32} {F : Nat → Int32} (hf : ∀ v, v < 3 → ((p0 >>> ((4 * nI v) &&& 31)) &&& 15) - 5 = F v) (hb : ∀ v, v < 3 → F v ≤ 5) (h1 : ¬ p1 < -100) (h2 : p1 ≤ 100)
    (h : post 0 (1, act, dep, a1, a2, (upd (upd (upd a3 0 (F 0)) 1 (F 1)) 2 (F 2)), (upd a4 0 p1), (upd a5 0 1), a6, a7, a8, a9, a10, a11)) : wpX_limit post (0, act, dep, a1, a2, a3, a4, a5, a6, a7, a8, a9, a10, a11) p0 p1 := by
  unfold wpX_limit
  dsimp only
  refine ib_badF (fun v hv => by rw [hf v hv]; exact hb v hv) (br_t rfl (br_f h1 (br_t h2 (br_t (by decide) ?_))))
  refine ib_setL hf ?_
  dsimp only
  refine ⟨pk_in 0 6 (by omega), nm_r (e' := upd a5 0 1) (by rw [sb_cl0]) (nm_r (e' := 1) (by decide) ?_)⟩
  rw [show (1 : Int32) - 1 = 0 from by decide]
  exact h
theorem ib_mk_v {post : St2 → Prop} {mc ms kc ks : Nat} {lim act dep : Int32} {a1 a2 a3 a4 a5 a6 a7 a8 a9 a10 a11 : Nat → Int32} {n : Nat} (v : Nat) (hv : v < 3) (h : wX_init_88 post mc ms kc ks lim act dep n (nI (v + 1)) (upd a1 v (-8)) (upd a2 v 8) a3 a4 a5 a6 a7 a8 a9 a10 a11) : wX_init_88 post mc ms kc ks lim act dep (n + 1) (nI v) a1 a2 a3 a4 a5 a6 a7 a8 a9 a10 a11 := by
  have c : (nI v).toNatClampNeg = v := nI_clamp (by omega)
  refine pk_le 3 v (fun z => absurd z (by omega)) (fun _ => ?_)
  rw [c]
  exact ⟨pk_in v 3 hv, nm_e ⟨pk_in v 3 hv, nm_e (nm_r (nI_1 v) h)⟩⟩
theorem ib_make {post : St2 → Prop} {mc ms : Nat} (h1 : 11 ≤ mc) (h2 : 248 ≤ ms)
    (h : ∀ a1 a2 a3 a4 a5 a6 a7 a8 a9 a10 a11 : Nat → Int32, (∀ j, j < 3 → a1 j = -8) → (∀ j, j < 3 → a2 j = 8) → post (0, 0, 0, a1, a2, a3, a4, a5, a6, a7, a8, a9, a10, a11)) : wpX_init post mc ms (0, 0, 0) := by
  unfold wpX_init
  dsimp only
  refine ⟨by omega, by omega, by omega, by omega, by omega, by omega, by omega, by omega, by omega, by omega, by omega, by omega, by omega, by omega, by omega, by omega, by omega, by omega, by omega, by omega, by omega, by omega, 4, ?_⟩
  refine ib_mk_v 0 (by omega) (ib_mk_v 1 (by omega) (ib_mk_v 2 (by omega) (pk_le 3 3 (fun _ => ?_) (fun z => absurd z (by omega)))))
  refine h _ _ _ _ _ _ _ _ _ _ _ ?_ ?_
  · intro j hj
    rcases (show j = 0 ∨ j = 1 ∨ j = 2 by omega) with rfl | rfl | rfl
    · simp [upd]
    · simp [upd]
    · simp [upd]
  · intro j hj
    rcases (show j = 0 ∨ j = 1 ∨ j = 2 by omega) with rfl | rfl | rfl
    · simp [upd]
    · simp [upd]
    · simp [upd]
end
section
/-- the numbers of a script -/
def ib_D (k : Nat) (c b : Int) (l : Nat) : Prop := k < 3 ∧ (1 ≤ c ∧ c ≤ 5) ∧ (-50 ≤ b ∧ b ≤ 49) ∧ l < 17
/-- the upper end of what is left of variable k; how many numbers are left of it -/
def ib_e (c b : Int) : Int := if b / c < 8 then b / c else 8
def ib_n (c b : Int) (l : Nat) : Int := if (l : Int) - 8 ≤ ib_e c b then ib_e c b - ((l : Int) - 8) + 1 else 0
/-- what every question of the law finds -/
def ib_K (k : Nat) (c b : Int) (l : Nat) (a1 a2 a3 a4 a5 : Nat → Int32) : Prop := (∀ j, j < 3 → a1 j = if j = k then ib_z ((l : Int) - 8) else -8) ∧ (∀ j, j < 3 → a2 j = 8) ∧ ib_L k 0 (ib_z c) (ib_z b) a3 a4 ∧ a5 0 = 1
theorem ib_eb {c b : Int} (h1 : 1 ≤ c) (h2 : c ≤ 5) (h3 : -50 ≤ b) (h4 : b ≤ 49) : -50 ≤ ib_e c b ∧ ib_e c b ≤ 8 ∧ ib_e c b ≤ b / c := by
  have h := ib_flb h1 h2 h3 (show b ≤ 50 by omega)
  unfold ib_e
  by_cases z : b / c < 8
  · rw [if_pos z]
    omega
  · rw [if_neg z]
    omega
theorem ib_gp {c : Int} (h1 : 1 ≤ c) (h2 : c ≤ 5) : ¬ ib_z c ≤ 0 := by
  rw [show (0 : Int32) = ib_z 0 from rfl, ib_zle (by omega) (by omega) (by omega) (by omega)]
  omega
theorem ib_KE {k : Nat} {c b : Int} {l : Nat} {a1 a2 a3 a4 a5 : Nat → Int32} (hD : ib_D k c b l) (hK : ib_K k c b l a1 a2 a3 a4 a5) : ¬ ib_E a1 a2 := by
  obtain ⟨hk, _, _, hl⟩ := hD
  obtain ⟨h1, h2, _, _⟩ := hK
  rintro ⟨j, hj, hz⟩
  rw [h1 j hj, h2 j hj] at hz
  by_cases e : j = k
  · rw [if_pos e, show (8 : Int32) = ib_z 8 from rfl, ib_zlt (by omega) (by omega) (by omega) (by omega)] at hz
    omega
  · rw [if_neg e] at hz
    exact absurd hz (by decide)
theorem ib_KR1 {k : Nat} {c b : Int} {l : Nat} {a1 a2 a3 a4 a5 : Nat → Int32} (hD : ib_D k c b l) (hK : ib_K k c b l a1 a2 a3 a4 a5) (a6 : Nat → Int32) :
    ib_R 1 1 a1 a2 a3 a4 a5 a6 (¬ (l : Int) - 8 ≤ ib_e c b) a1 (upd a2 k (ib_z (ib_e c b))) := by
  have hE := ib_KE hD hK
  obtain ⟨hk, ⟨c1, c2⟩, ⟨b1, b2⟩, hl⟩ := hD
  obtain ⟨h1, h2, hL, _⟩ := hK
  have hf := ib_fdz c1 c2 b1 (show b ≤ 50 by omega)
  have hfb := ib_flb c1 c2 b1 (show b ≤ 50 by omega)
  have heb := ib_eb c1 c2 b1 b2
  have p1 : a1 k = ib_z ((l : Int) - 8) := by rw [h1 k hk, if_pos rfl]
  have p2 : a2 k = ib_z 8 := h2 k hk
  have q2 : a2 0 = ib_z 8 := h2 0 (by omega)
  have iff1 : (ib_z c * a1 k ≤ ib_z b) = ((l : Int) - 8 ≤ ib_e c b) := by
    rw [p1]
    apply propext
    rw [ib_flz c1 c2 b1 (by omega) (by omega) (by omega)]
    unfold ib_e
    by_cases z : b / c < 8
    · rw [if_pos z]
    · rw [if_neg z]
      omega
  have hlt : (ib_fd (ib_z b) (ib_z c) < a2 k) = (b / c < 8) := by
    rw [hf, p2]
    exact propext (ib_zlt (by omega) (by omega) (by omega) (by omega))
  have R := ib_R1 (lim := 1) (a1 := a1) (a2 := a2) (a5 := a5) (a6 := a6) (e := ib_z (ib_e c b)) hk hL (ib_gp c1 c2) (by rw [q2]; exact ib_s1 (by omega) (by omega)) (by rw [hf]; exact ib_s1 (by omega) (by omega)) hE
    (by rw [hlt]; intro z; rw [hf]; unfold ib_e; rw [if_pos z]) (by rw [hlt]; intro z; rw [p2]; unfold ib_e; rw [if_neg z])
    (by
      rw [iff1]
      intro z
      refine ⟨?_, ?_⟩
      · rw [p1, ib_zlt (by omega) (by omega) (by omega) (by omega)]
        omega
      · rw [ib_flz c1 c2 b1 (by omega) (by omega) (by omega)]
        omega)
  rw [iff1] at R
  exact R
theorem ib_KR193 {k : Nat} {c b : Int} {l : Nat} {a1 a2 a3 a4 a5 : Nat → Int32} (hD : ib_D k c b l) (hK : ib_K k c b l a1 a2 a3 a4 a5) (a6 b3 b4 : Nat → Int32)
    (L0 : ib_L k 0 (ib_z c) (ib_z b) b3 b4) (L6 : ib_L k 6 (ib_z c) (ib_z b) b3 b4) (L7 : ib_L k 7 (-ib_z c) (-ib_z b) b3 b4) :
    ib_R 1 193 a1 a2 b3 b4 a5 a6 (¬ ((l : Int) - 8 ≤ ib_e c b ∧ c * ib_e c b = b)) (upd a1 k (ib_z (ib_e c b))) (upd a2 k (ib_z (ib_e c b))) := by
  have hE := ib_KE hD hK
  obtain ⟨hk, ⟨c1, c2⟩, ⟨b1, b2⟩, hl⟩ := hD
  obtain ⟨h1, h2, hL, _⟩ := hK
  have hf := ib_fdz c1 c2 b1 (show b ≤ 50 by omega)
  have hf' := ib_fdz (b := -b) c1 c2 (by omega) (by omega)
  have hfb := ib_flb c1 c2 b1 (show b ≤ 50 by omega)
  have hfb' := ib_flb (b := -b) c1 c2 (by omega) (by omega)
  have heb := ib_eb c1 c2 b1 b2
  have hce := ib_mb c1 c2 heb.1 (show ib_e c b ≤ 50 by omega)
  have hcq := ib_mb c1 c2 hfb.1 hfb.2
  have hle : c * ib_e c b ≤ b := (ib_fl c1).mpr heb.2.2
  have hlq : c * (b / c) ≤ b := (ib_fl c1).mpr (Int.le_refl _)
  have p1 : a1 k = ib_z ((l : Int) - 8) := by rw [h1 k hk, if_pos rfl]
  have p2 : a2 k = ib_z 8 := h2 k hk
  have q2 : a2 0 = ib_z 8 := h2 0 (by omega)
  have iff1 : (ib_z c * a1 k ≤ ib_z b) = ((l : Int) - 8 ≤ ib_e c b) := by
    rw [p1]
    apply propext
    rw [ib_flz c1 c2 b1 (by omega) (by omega) (by omega)]
    unfold ib_e
    by_cases z : b / c < 8
    · rw [if_pos z]
    · rw [if_neg z]
      omega
  have iff2 : (ib_z c * ib_z (ib_e c b) = ib_z b) = (c * ib_e c b = b) := by
    rw [ib_zmul]
    exact propext (ib_zeq (by omega) (by omega) (by omega) (by omega))
  have hlt : (ib_fd (ib_z b) (ib_z c) < a2 k) = (b / c < 8) := by
    rw [hf, p2]
    exact propext (ib_zlt (by omega) (by omega) (by omega) (by omega))
  have neg : ∀ x : Int, -c * x = -(c * x) := fun x => Int.neg_mul c x
  have dv : ∀ x : Int, c * x = b → (-b) / c = -x := by
    intro x hx
    rw [← hx, show -(c * x) = -x * c by rw [Int.mul_comm c x, Int.neg_mul], Int.mul_ediv_cancel _ (show c ≠ 0 by omega)]
  rw [← iff1, ← iff2]
  have R := ib_R193 (lim := 1) (a1 := a1) (a2 := a2) (a5 := a5) (a6 := a6) (e := ib_z (ib_e c b)) hk L0 L6 L7 (ib_gp c1 c2)
    (by rw [ib_zneg, show (0 : Int32) = ib_z 0 from rfl, ib_zle (by omega) (by omega) (by omega) (by omega)]; omega)
    (by rw [Int32.neg_neg]; exact ib_gp c1 c2)
    (by rw [q2]; exact ib_s1 (by omega) (by omega)) (by rw [hf]; exact ib_s1 (by omega) (by omega)) hE
    (by rw [hlt]; intro z; rw [hf]; unfold ib_e; rw [if_pos z]) (by rw [hlt]; intro z; rw [p2]; unfold ib_e; rw [if_neg z])
    (by
      rw [iff1]
      intro z
      refine ⟨?_, ?_⟩
      · rw [p1, ib_zlt (by omega) (by omega) (by omega) (by omega)]
        omega
      · rw [ib_flz c1 c2 b1 (by omega) (by omega) (by omega)]
        omega)
    (by
      rw [hf, Int32.neg_neg, ib_zneg, ib_zneg, ib_zmul, neg, ib_zle (by omega) (by omega) (by omega) (by omega), hf', ib_zneg, ib_flz c1 c2 b1 (by omega) (by omega) (by omega)]
      intro z
      rw [dv (b / c) (by omega)]
      omega)
    (by
      rw [iff2, ib_zneg, ib_zneg, ib_zmul, neg, ib_zle (by omega) (by omega) (by omega) (by omega)]
      omega)
    (by
      rw [iff2, Int32.neg_neg, ib_zneg, hf', ib_zneg]
      intro z
      rw [dv _ z, Int.neg_neg])
  exact R
theorem ib_volK {k : Nat} {lo hi : Nat → Int32} {x y : Int} (hk : k < 3) (h1 : ∀ j, j < 3 → lo j = if j = k then ib_z x else -8) (h2 : ∀ j, j < 3 → hi j = if j = k then ib_z y else 8) : ib_vol lo hi = ib_z (289 * (y - x + 1)) := by
  unfold ib_vol
  rw [h1 0 (by omega), h1 1 (by omega), h1 2 (by omega), h2 0 (by omega), h2 1 (by omega), h2 2 (by omega)]
  have e17 : ((8 : Int32) - (-8) + 1) = ib_z 17 := by decide
  have e1 : (1 : Int32) = ib_z 1 := rfl
  rcases (show k = 0 ∨ k = 1 ∨ k = 2 by omega) with rfl | rfl | rfl
  · rw [if_pos rfl, if_pos rfl, if_neg (by omega), if_neg (by omega), if_neg (by omega), if_neg (by omega), e17, e1, ib_zsub, ib_zadd, ib_zmul, ib_zmul]
    congr 1
    omega
  · rw [if_pos rfl, if_pos rfl, if_neg (by omega), if_neg (by omega), if_neg (by omega), if_neg (by omega), e17, e1, ib_zsub, ib_zadd, ib_zmul, ib_zmul]
    congr 1
    omega
  · rw [if_pos rfl, if_pos rfl, if_neg (by omega), if_neg (by omega), if_neg (by omega), if_neg (by omega), e17, e1, ib_zsub, ib_zadd, ib_zmul, ib_zmul]
    congr 1
theorem ib_gbK {k : Nat} {F lo hi : Nat → Int32} {c x : Int} (hk : k < 3) (hg : ¬ ib_z c ≤ 0) (hF : ∀ j, j < 3 → F j = if j = k then ib_z c else 0) (hx : hi k = ib_z x) : ib_gb F lo hi = ib_z (c * x) := by
  unfold ib_gb
  rw [hF 0 (by omega), hF 1 (by omega), hF 2 (by omega), ← ib_zmul, ← hx]
  rcases (show k = 0 ∨ k = 1 ∨ k = 2 by omega) with rfl | rfl | rfl
  · simp [ib_lt0, ib_ltP hg]
  · simp [ib_lt0, ib_ltP hg]
  · simp [ib_lt0, ib_ltP hg]
end
section
theorem ib_nle {c b : Int} {l : Nat} (hl : l < 17) (h1 : -50 ≤ ib_e c b) (h2 : ib_e c b ≤ 8) : (ib_z (ib_n c b l) ≤ 0) = (¬ (l : Int) - 8 ≤ ib_e c b) := by
  unfold ib_n
  by_cases z : (l : Int) - 8 ≤ ib_e c b
  · rw [if_pos z, show (0 : Int32) = ib_z 0 from rfl, ib_zle (by omega) (by omega) (by omega) (by omega)]
    exact propext ⟨fun t => absurd t (by omega), fun t => absurd z t⟩
  · rw [if_neg z]
    exact propext ⟨fun _ => z, fun _ => by decide⟩
/-- 8: core -/
theorem ib_l8 {mc ms kc ks k l : Nat} {c b : Int} {z0 z1 : Int32} {act dep : Int32} {a1 a2 a3 a4 a5 a6 a7 a8 a9 a10 a11 : Nat → Int32} (hD : ib_D k c b l) (hK : ib_K k c b l a1 a2 a3 a4 a5) (hz : z1 = z0) : wL_lawOf_323 (fun r _ => r = 1) mc ms (ib_z (ib_n c b l)) z0 z1 kc ks 1 act dep a1 a2 a3 a4 a5 a6 a7 a8 a9 a10 a11 := by
  obtain ⟨e1, e2, e3⟩ := ib_eb hD.2.1.1 hD.2.1.2 hD.2.2.1.1 hD.2.2.1.2
  have hn := ib_nle (c := c) (b := b) hD.2.2.2 e1 e2
  unfold wL_lawOf_323
  rw [hn]
  refine br_t hz (ib_core hK.2.2.2 (ib_KR1 hD hK a6) (ib_KE hD hK) (fun x _ _ _ _ _ _ _ => ?_) (fun x _ _ _ _ _ _ _ => ?_))
  · exact br_t x (br_t rfl rfl)
  · exact br_f x (br_t rfl rfl)
/-- 7: tight -/
theorem ib_l7 {mc ms kc ks k l : Nat} {c b : Int} {z0 z1 : Int32} {act dep : Int32} {a1 a2 a3 a4 a5 a6 a7 a8 a9 a10 a11 : Nat → Int32} (hD : ib_D k c b l) (hK : ib_K k c b l a1 a2 a3 a4 a5) (hz : z1 = z0) : wL_lawOf_290 (fun r _ => r = 1) mc ms (ib_z c) (ib_z b) (ib_z (ib_e c b)) (ib_z (ib_n c b l)) z0 z1 kc ks 1 act dep a1 a2 a3 a4 a5 a6 a7 a8 a9 a10 a11 := by
  obtain ⟨e1, e2, e3⟩ := ib_eb hD.2.1.1 hD.2.1.2 hD.2.2.1.1 hD.2.2.1.2
  have hn := ib_nle (c := c) (b := b) hD.2.2.2 e1 e2
  have hce := ib_mb hD.2.1.1 hD.2.1.2 e1 (show ib_e c b ≤ 50 by omega)
  have hbb := hD.2.2.1
  have iff2 : (ib_z c * ib_z (ib_e c b) = ib_z b) = (c * ib_e c b = b) := by
    rw [ib_zmul]
    exact propext (ib_zeq (by omega) (by omega) (by omega) (by omega))
  unfold wL_lawOf_290
  rw [hn, iff2]
  refine br_t hz (ib_tight hK.2.2.2 hK.2.2.1 (fun b3 b4 L0 L6 L7 => ib_KR193 hD hK a6 b3 b4 L0 L6 L7) (fun x p q b3 b4 b7 b8 b9 b10 b11 L0 => ?_) (fun x p q b3 b4 b7 b8 b9 b10 b11 L0 => ?_))
  · have hK' : ib_K k c b l a1 a2 b3 b4 a5 := ⟨hK.1, hK.2.1, L0, hK.2.2.2⟩
    exact br_c (fun _ => ib_l8 hD hK' rfl) (fun z => br_c (fun y => absurd ⟨Classical.byContradiction z, y⟩ x) (fun _ => ib_l8 hD hK' rfl))
  · have hK' : ib_K k c b l a1 a2 b3 b4 a5 := ⟨hK.1, hK.2.1, L0, hK.2.2.2⟩
    obtain ⟨x1, x2⟩ := Classical.byContradiction x
    refine br_f (fun t => t x1) (br_t x2 (ib_l8 hD hK' ?_))
    rw [ib_volK (x := ib_e c b) (y := ib_e c b) hD.1 (fun j hj => ?_) (fun j hj => ?_)]
    · rw [show 289 * (ib_e c b - ib_e c b + 1) = 289 by omega]
      rfl
    · by_cases e : j = k
      · rw [e, pk_us, if_pos rfl]
      · rw [pk_un e, if_neg e, hK.1 j hj, if_neg e]
    · by_cases e : j = k
      · rw [e, pk_us, if_pos rfl]
      · rw [pk_un e, if_neg e, hK.2.1 j hj]
/-- 6: numbers -/
theorem ib_l6 {mc ms kc ks k l : Nat} {c b : Int} {z0 z1 : Int32} {act dep : Int32} {a1 a2 a3 a4 a5 a6 a7 a8 a9 a10 a11 : Nat → Int32} (hD : ib_D k c b l) (hK : ib_K k c b l a1 a2 a3 a4 a5) (hz : z1 = z0) : wL_lawOf_254 (fun r _ => r = 1) mc ms (nI k) (ib_z c) (ib_z b) (ib_z ((l : Int) - 8)) (ib_z (ib_e c b)) (ib_z (ib_n c b l)) z0 z1 kc ks 1 act dep a1 a2 a3 a4 a5 a6 a7 a8 a9 a10 a11 := by
  obtain ⟨hk, ⟨c1, c2⟩, ⟨b1, b2⟩, hl⟩ := hD
  have hD : ib_D k c b l := ⟨hk, ⟨c1, c2⟩, ⟨b1, b2⟩, hl⟩
  obtain ⟨e1, e2, e3⟩ := ib_eb c1 c2 b1 b2
  have hf := ib_fdz c1 c2 b1 (show b ≤ 50 by omega)
  have hfb := ib_flb c1 c2 b1 (show b ≤ 50 by omega)
  have hn := ib_nle (c := c) (b := b) hl e1 e2
  have ex : ∃ en : Nat, (l ≤ en ∧ en ≤ 17) ∧ ((l : Int) - 8 ≤ ib_e c b → (en : Int) = ib_e c b + 9) ∧ (¬ (l : Int) - 8 ≤ ib_e c b → en = l) := by
    by_cases z : (l : Int) - 8 ≤ ib_e c b
    · exact ⟨(ib_e c b + 9).toNat, by omega, fun _ => by omega, fun t => absurd z t⟩
    · exact ⟨l, by omega, fun t => absurd t z, fun _ => rfl⟩
  obtain ⟨en, ⟨g1, g2⟩, g3, g4⟩ := ex
  unfold wL_lawOf_254
  rw [hn]
  refine br_t hz (ib_nums (l := l) (en := en) hk hl g1 g2 hK.2.2.2 hK.2.2.1 (ib_gp c1 c2) (by rw [hf]; exact ib_s1 (by omega) (by omega)) hK.1 hK.2.1 (fun x hx hx' => ?_) (fun p q d1 d2 d7 d8 d9 d10 d11 h1 h2 => ?_))
  · have t : ib_z c * ib_z ((x : Int) - 8) ≤ ib_z b ↔ (x : Int) - 8 ≤ b / c := ib_flz c1 c2 b1 (by omega) (by omega) (by omega)
    have te : (x : Int) - 8 ≤ b / c ↔ (x : Int) - 8 ≤ ib_e c b := by
      unfold ib_e
      by_cases z : b / c < 8
      · rw [if_pos z]
      · rw [if_neg z]
        omega
    refine ⟨?_, fun z => ?_⟩
    · rw [t, te]
      by_cases z : (l : Int) - 8 ≤ ib_e c b
      · have := g3 z
        omega
      · have := g4 z
        omega
    · rw [hf, ib_zlt (by omega) (by omega) (by omega) (by omega)]
      have := t.mp z
      omega
  · have hK' : ib_K k c b l d1 d2 a3 a4 a5 := ⟨h1, h2, hK.2.2.1, hK.2.2.2⟩
    refine br_c (fun z => ib_l7 hD hK' ?_) (fun z => ib_l7 hD hK' ?_)
    · rw [g4 z, Nat.sub_self]
      rfl
    · have z' : (l : Int) - 8 ≤ ib_e c b := Classical.byContradiction z
      have t1 : ib_z (ib_e c b) + 9 = nI en := by
        rw [show (9 : Int32) = ib_z 9 from rfl, ib_zadd, ib_zn, g3 z']
      have t2 : ib_z ((l : Int) - 8) + 8 = nI l := by
        rw [show (8 : Int32) = ib_z 8 from rfl, ib_zadd, ib_zn, show (l : Int) - 8 + 8 = l by omega]
      rw [t1, t2]
      exact (ib_nm1 l hl en (by omega) g1).symm
/-- 5: idle -/
theorem ib_l5 {mc ms kc ks k l : Nat} {c b : Int} {z0 z1 : Int32} {act dep : Int32} {a1 a2 a3 a4 a5 a6 a7 a8 a9 a10 a11 : Nat → Int32} (hD : ib_D k c b l) (hK : ib_K k c b l a1 a2 a3 a4 a5) (hz : z1 = z0) : wL_lawOf_230 (fun r _ => r = 1) mc ms (nI k) (ib_z c) (ib_z b) (ib_z ((l : Int) - 8)) (ib_z (ib_e c b)) (ib_z (ib_n c b l)) z0 z1 kc ks 1 act dep a1 a2 a3 a4 a5 a6 a7 a8 a9 a10 a11 := by
  obtain ⟨hk, ⟨c1, c2⟩, ⟨b1, b2⟩, hl⟩ := hD
  have hD : ib_D k c b l := ⟨hk, ⟨c1, c2⟩, ⟨b1, b2⟩, hl⟩
  obtain ⟨e1, e2, e3⟩ := ib_eb c1 c2 b1 b2
  have v0 : ib_vol a1 a2 = ib_z (289 * (8 - ((l : Int) - 8) + 1)) := ib_volK hk hK.1 (fun j hj => by
    rw [hK.2.1 j hj]
    by_cases e : j = k
    · rw [if_pos e]
      rfl
    · rw [if_neg e])
  have v1 : ib_vol a1 (upd a2 k (ib_z (ib_e c b))) = ib_z (289 * (ib_e c b - ((l : Int) - 8) + 1)) := ib_volK hk hK.1 (fun j hj => by
    by_cases e : j = k
    · rw [e, pk_us, if_pos rfl]
    · rw [pk_un e, if_neg e, hK.2.1 j hj])
  unfold wL_lawOf_230
  refine br_t hz (ib_idle hK.2.2.2 (ib_KR1 hD hK a6) (ib_KE hD hK) (fun w w1 w2 p q b7 b8 b9 b10 b11 => ?_))
  have hw : w = ib_z (289 * ib_n c b l) := by
    unfold ib_n
    by_cases z : (l : Int) - 8 ≤ ib_e c b
    · rw [if_pos z, w2 (fun t => t z), v1]
    · rw [if_neg z, w1 z]
      rfl
  have nb : 0 ≤ ib_n c b l ∧ ib_n c b l ≤ 17 := by
    unfold ib_n
    by_cases z : (l : Int) - 8 ≤ ib_e c b
    · rw [if_pos z]
      omega
    · rw [if_neg z]
      omega
  have q1 : (w = ib_vol a1 a2) = (ib_n c b l = 17 - (l : Int)) := by
    rw [hw, v0]
    apply propext
    rw [ib_zeq (by omega) (by omega) (by omega) (by omega)]
    omega
  have q2 : (ib_z (ib_n c b l) = 9 - ib_z ((l : Int) - 8)) = (ib_n c b l = 17 - (l : Int)) := by
    rw [show (9 : Int32) = ib_z 9 from rfl, ib_zsub]
    apply propext
    rw [ib_zeq (by omega) (by omega) (by omega) (by omega)]
    omega
  rw [q1, q2]
  exact br_c (fun z => br_t z (ib_l6 hD hK rfl)) (fun z => br_f z (ib_l6 hD hK rfl))
/-- 4: greatest -/
theorem ib_l4 {mc ms kc ks k l : Nat} {c b : Int} {x10 z0 z1 : Int32} {act dep : Int32} {a1 a2 a3 a4 a5 a6 a7 a8 a9 a10 a11 : Nat → Int32} (hD : ib_D k c b l) (hK : ib_K k c b l a1 a2 a3 a4 a5) (hf : ∀ v, v < 3 → ((x10 >>> ((4 * nI v) &&& 31)) &&& 15) - 5 = if v = k then ib_z c else 0) (hz : z1 = z0) : wL_lawOf_202 (fun r _ => r = 1) mc ms (nI k) (ib_z c) (ib_z b) (ib_z ((l : Int) - 8)) x10 (ib_z (ib_e c b)) (ib_z (ib_n c b l)) z0 z1 kc ks 1 act dep a1 a2 a3 a4 a5 a6 a7 a8 a9 a10 a11 := by
  obtain ⟨hk, ⟨c1, c2⟩, ⟨b1, b2⟩, hl⟩ := hD
  have hD : ib_D k c b l := ⟨hk, ⟨c1, c2⟩, ⟨b1, b2⟩, hl⟩
  obtain ⟨e1, e2, e3⟩ := ib_eb c1 c2 b1 b2
  have hce := ib_mb c1 c2 e1 (show ib_e c b ≤ 50 by omega)
  have hn := ib_nle (c := c) (b := b) hl e1 e2
  have hgb : ib_gb (fun v => if v = k then ib_z c else 0) a1 (upd a2 k (ib_z (ib_e c b))) = ib_z (c * ib_e c b) := ib_gbK hk (ib_gp c1 c2) (fun _ _ => rfl) pk_us
  unfold wL_lawOf_202
  rw [hn]
  refine br_t hz (ib_great (F := fun v => if v = k then ib_z c else 0) hK.2.2.2 (fun b6 => ib_KR1 hD hK b6) hf (fun v hv => ?_) (fun _ => ?_) (fun x p q b6 b7 b8 b9 b10 b11 => ?_) (fun x p q b6 b7 b8 b9 b10 b11 => ?_))
  · by_cases e : v = k
    · rw [if_pos e, show (5 : Int32) = ib_z 5 from rfl, ib_zle (by omega) (by omega) (by omega) (by omega)]
      omega
    · rw [if_neg e]
      decide
  · rw [hgb, show (-10000 : Int32) = ib_z (-10000) from rfl, ib_zle (by omega) (by omega) (by omega) (by omega)]
    omega
  · exact br_t x (ib_l5 hD hK rfl)
  · refine br_f x (ib_l5 hD hK ?_)
    rw [hgb, ib_zmul]
/-- 2, 3: points, first -/
theorem ib_l2 {mc ms kc ks k l : Nat} {c b : Int} {x10 : Int32} {act dep : Int32} {a1 a2 a3 a4 a5 a6 a7 a8 a9 a10 a11 : Nat → Int32} (hD : ib_D k c b l) (hK : ib_K k c b l a1 a2 a3 a4 a5) (hf : ∀ v, v < 3 → ((x10 >>> ((4 * nI v) &&& 31)) &&& 15) - 5 = if v = k then ib_z c else 0) : wL_lawOf_166 (fun r _ => r = 1) mc ms (nI k) (ib_z c) (ib_z b) (ib_z ((l : Int) - 8)) x10 (ib_z (ib_e c b)) (ib_z (ib_n c b l)) kc ks 1 act dep a1 a2 a3 a4 a5 a6 a7 a8 a9 a10 a11 := by
  obtain ⟨hk, ⟨c1, c2⟩, ⟨b1, b2⟩, hl⟩ := hD
  have hD : ib_D k c b l := ⟨hk, ⟨c1, c2⟩, ⟨b1, b2⟩, hl⟩
  obtain ⟨e1, e2, e3⟩ := ib_eb c1 c2 b1 b2
  have hn := ib_nle (c := c) (b := b) hl e1 e2
  have v1 : ib_vol a1 (upd a2 k (ib_z (ib_e c b))) = ib_z (289 * (ib_e c b - ((l : Int) - 8) + 1)) := ib_volK hk hK.1 (fun j hj => by
    by_cases e : j = k
    · rw [e, pk_us, if_pos rfl]
    · rw [pk_un e, if_neg e, hK.2.1 j hj])
  have p1 : a1 k = ib_z ((l : Int) - 8) := by rw [hK.1 k hk, if_pos rfl]
  unfold wL_lawOf_166
  rw [hn]
  have main : ∀ (p q : Int32) (a7 a8 a9 a10 a11 : Nat → Int32), wpX_first (fun r_172 u => match u with | (fm0_limits_173, fm0_active_174, fm0_depth_175, am1861_178, am1862_181, am1863_184, am1864_187, am1865_190, am1866_193, am1867_196, am1868_199, am1869_202, am18610_205, am18611_208) => (((¬ (l : Int) - 8 ≤ ib_e c b → (wL_lawOf_202 (fun r _ => r = 1) mc ms (nI k) (ib_z c) (ib_z b) (ib_z ((l : Int) - 8)) x10 (ib_z (ib_e c b)) (ib_z (ib_n c b l)) (-10000) r_172 kc ks fm0_limits_173 fm0_active_174 fm0_depth_175 am1861_178 am1862_181 am1863_184 am1864_187 am1865_190 am1866_193 am1867_196 am1868_199 am1869_202 am18610_205 am18611_208)) ∧ (¬ ¬ (l : Int) - 8 ≤ ib_e c b → (wL_lawOf_202 (fun r _ => r = 1) mc ms (nI k) (ib_z c) (ib_z b) (ib_z ((l : Int) - 8)) x10 (ib_z (ib_e c b)) (ib_z (ib_n c b l)) (ib_z ((l : Int) - 8)) r_172 kc ks fm0_limits_173 fm0_active_174 fm0_depth_175 am1861_178 am1862_181 am1863_184 am1864_187 am1865_190 am1866_193 am1867_196 am1868_199 am1869_202 am18610_205 am18611_208))))) (1, p, q, a1, a2, a3, a4, a5, a6, a7, a8, a9, a10, a11) (nI k) := by
    intro p q a7 a8 a9 a10 a11
    refine ib_first hk hK.2.2.2 (ib_KR1 hD hK a6) (fun x _ _ _ _ _ _ _ => ?_) (fun x _ _ _ _ _ _ _ => ?_)
    · exact br_t x (ib_l4 hD hK hf rfl)
    · exact br_f x (ib_l4 hD hK hf p1)
  refine ib_points hK.2.2.2 (ib_KR1 hD hK a6) (fun x p q b7 b8 b9 b10 b11 => br_t ?_ (main p q b7 b8 b9 b10 b11)) (fun x p q b7 b8 b9 b10 b11 => br_t ?_ (main p q b7 b8 b9 b10 b11))
  · unfold ib_n
    rw [if_neg x]
    decide
  · have x' : (l : Int) - 8 ≤ ib_e c b := Classical.byContradiction x
    unfold ib_n
    rw [if_pos x', v1, show (289 : Int32) = ib_z 289 from rfl, ib_zmul]
end
section
theorem ib_rem (x : Int32) {d : Nat} {m : Int32} (hm : m = nI d) (h0 : 0 < d) (h1 : d < 2 ^ 31) : ∃ j : Nat, j < d ∧ (x &&& 1023) - (x &&& 1023) / m * m = nI j := by
  rw [pk_and x (m := 1023) 10 (by decide), hm]
  refine ⟨_, Nat.mod_lt _ h0, pk_rem ?_ h0 h1⟩
  have := Nat.mod_lt x.toBitVec.toNat (show 0 < 2 ^ 10 by decide)
  omega
theorem ib_fac : ∀ k, k < 3 → ∀ j, j < 5 → ∀ v, v < 3 → (((1365 + (ib_z (((j : Nat) : Int) + 1) <<< ((4 * nI k) &&& 31))) >>> ((4 * nI v) &&& 31)) &&& 15) - 5 = if v = k then ib_z (((j : Nat) : Int) + 1) else 0 := by decide +kernel
theorem ib_l1 {mc ms kc ks k l : Nat} {c b : Int} {x10 z0 : Int32} {act dep : Int32} {a1 a2 a3 a4 a5 a6 a7 a8 a9 a10 a11 : Nat → Int32} (hD : ib_D k c b l) (hK : ib_K k c b l a1 a2 a3 a4 a5) (hf : ∀ v, v < 3 → ((x10 >>> ((4 * nI v) &&& 31)) &&& 15) - 5 = if v = k then ib_z c else 0) (hz : z0 = ib_z (b / c)) : wL_lawOf_130 (fun r _ => r = 1) mc ms (nI k) (ib_z c) (ib_z b) (ib_z ((l : Int) - 8)) x10 z0 kc ks 1 act dep a1 a2 a3 a4 a5 a6 a7 a8 a9 a10 a11 := by
  have t := ib_l2 (mc := mc) (ms := ms) (kc := kc) (ks := ks) (act := act) (dep := dep) (a6 := a6) (a7 := a7) (a8 := a8) (a9 := a9) (a10 := a10) (a11 := a11) hD hK hf
  obtain ⟨hk, ⟨c1, c2⟩, ⟨b1, b2⟩, hl⟩ := hD
  obtain ⟨e1, e2, e3⟩ := ib_eb c1 c2 b1 b2
  have hfb := ib_flb c1 c2 b1 (show b ≤ 50 by omega)
  have m : wL_lawOf_146 (fun r _ => r = 1) mc ms (nI k) (ib_z c) (ib_z b) (ib_z ((l : Int) - 8)) x10 (ib_z (ib_e c b)) kc ks 1 act dep a1 a2 a3 a4 a5 a6 a7 a8 a9 a10 a11 := by
    have hle : (ib_z ((l : Int) - 8) ≤ ib_z (ib_e c b)) = ((l : Int) - 8 ≤ ib_e c b) := propext (ib_zle (by omega) (by omega) (by omega) (by omega))
    unfold wL_lawOf_146
    rw [hle]
    unfold ib_n at t
    refine br_c (fun z => ?_) (fun z => ?_)
    · rw [if_pos z] at t
      rw [show (1 : Int32) = ib_z 1 from rfl, ib_zsub, ib_zadd]
      exact t
    · rw [if_neg z] at t
      exact t
  unfold wL_lawOf_130
  rw [hz]
  refine br_c (fun z => ?_) (fun z => ?_)
  · rw [show (8 : Int32) = ib_z 8 from rfl, ib_zle (by omega) (by omega) (by omega) (by omega)] at z
    have e : ib_e c b = b / c := by
      unfold ib_e
      by_cases y : b / c < 8
      · rw [if_pos y]
      · rw [if_neg y]
        omega
    rw [e] at m
    exact m
  · rw [show (8 : Int32) = ib_z 8 from rfl, ib_zle (by omega) (by omega) (by omega) (by omega)] at z
    have e : ib_e c b = 8 := by
      unfold ib_e
      rw [if_neg (by omega)]
    rw [e] at m
    exact m
theorem ib_law (p0 p1 p2 p3 : Int32) : wpL_lawOf (fun r _ => r = 1) 156 2496 () p0 p1 p2 p3 := by
  obtain ⟨k, hk, ek⟩ := ib_rem p0 (m := 3) (d := 3) rfl (by omega) (by omega)
  obtain ⟨j5, hj5, e5⟩ := ib_rem p1 (m := 5) (d := 5) rfl (by omega) (by omega)
  obtain ⟨jb, hjb, eb⟩ := ib_rem p2 (m := 100) (d := 100) rfl (by omega) (by omega)
  obtain ⟨l, hl, el⟩ := ib_rem p3 (m := 17) (d := 17) rfl (by omega) (by omega)
  have hf := ib_fac k hk j5 hj5
  have ec : ∃ c : Int, c = (j5 : Int) + 1 := ⟨_, rfl⟩
  have ebz : ∃ b : Int, b = (jb : Int) - 50 := ⟨_, rfl⟩
  obtain ⟨c, hc⟩ := ec
  obtain ⟨b, hb⟩ := ebz
  rw [← hc] at hf
  have e5' : 1 + ((p1 &&& 1023) - (p1 &&& 1023) / 5 * 5) = ib_z c := by
    rw [e5, ib_zn, show (1 : Int32) = ib_z 1 from rfl, ib_zadd, hc, Int.add_comm]
  have eb' : ((p2 &&& 1023) - (p2 &&& 1023) / 100 * 100) - 50 = ib_z b := by
    rw [eb, ib_zn, show (50 : Int32) = ib_z 50 from rfl, ib_zsub, hb]
  have el' : ((p3 &&& 1023) - (p3 &&& 1023) / 17 * 17) - 8 = ib_z ((l : Int) - 8) := by
    rw [el, ib_zn, show (8 : Int32) = ib_z 8 from rfl, ib_zsub]
  have hD : ib_D k c b l := ⟨hk, ⟨by omega, by omega⟩, ⟨by omega, by omega⟩, hl⟩
  have hcn : ¬ ib_z c = 0 := fun z => ib_gp (c := c) (by omega) (by omega) (by rw [z]; decide)
  unfold wpL_lawOf
  refine ⟨by omega, by omega, 11, 248, by omega, by omega, ?_⟩
  refine ib_make (by omega) (by omega) (fun a1 a2 a3 a4 a5 a6 a7 a8 a9 a10 a11 h1 h2 => ?_)
  refine ⟨by decide, nm_r ek ⟨by decide, nm_r e5' ⟨by decide, nm_r eb' ⟨by decide, nm_r el' (nm_e ?_)⟩⟩⟩⟩
  refine ib_range hk ?_ ?_ ?_
  · rw [show (-8 : Int32) = ib_z (-8) from rfl, ib_zlt (by omega) (by omega) (by omega) (by omega)]
    omega
  · rw [show (8 : Int32) = ib_z 8 from rfl, ib_zlt (by omega) (by omega) (by omega) (by omega)]
    omega
  · refine br_t ?_ ?_
    · rw [show (8 : Int32) = ib_z 8 from rfl, show (9 : Int32) = ib_z 9 from rfl, show (1 : Int32) = ib_z 1 from rfl, ib_zsub, ib_zadd, ib_zsub]
      congr 1
      omega
    · refine ib_limit (F := fun v => if v = k then ib_z c else 0) hf (fun v hv => ?_) ?_ ?_ ?_
      · by_cases e : v = k
        · rw [if_pos e, show (5 : Int32) = ib_z 5 from rfl, ib_zle (by omega) (by omega) (by omega) (by omega)]
          omega
        · rw [if_neg e]
          decide
      · rw [show (-100 : Int32) = ib_z (-100) from rfl, ib_zlt (by omega) (by omega) (by omega) (by omega)]
        omega
      · rw [show (100 : Int32) = ib_z 100 from rfl, ib_zle (by omega) (by omega) (by omega) (by omega)]
        omega
      · have hK : ib_K k c b l (upd a1 k (ib_z ((l : Int) - 8))) (upd a2 k 8) (upd (upd (upd a3 0 (if 0 = k then ib_z c else 0)) 1 (if 1 = k then ib_z c else 0)) 2 (if 2 = k then ib_z c else 0)) (upd a4 0 (ib_z b)) (upd a5 0 1) := by
          refine ⟨fun j hj => ?_, fun j hj => ?_, ⟨fun j hj => ?_, pk_us⟩, pk_us⟩
          · by_cases e : j = k
            · rw [e, pk_us, if_pos rfl]
            · rw [pk_un e, if_neg e]
              exact h1 j hj
          · by_cases e : j = k
            · rw [e, pk_us]
            · rw [pk_un e]
              exact h2 j hj
          · rw [Nat.zero_mul, Nat.zero_add]
            rcases (show j = 0 ∨ j = 1 ∨ j = 2 by omega) with rfl | rfl | rfl
            · simp [upd]
            · simp [upd]
            · simp [upd]
        refine br_t rfl (br_c (fun z => ⟨hcn, ib_l1 hD hK hf ?_⟩) (fun z => ⟨hcn, ib_l1 hD hK hf ?_⟩))
        · rw [show (0 : Int32) = ib_z 0 from rfl, ib_zlt (by omega) (by omega) (by omega) (by omega)] at z
          exact ib_tnz (by omega) (by omega) (by omega) (by omega)
        · rw [show (0 : Int32) = ib_z 0 from rfl, ib_zlt (by omega) (by omega) (by omega) (by omega)] at z
          exact ib_tpz (by omega) (by omega) (by omega) (by omega)
theorem ib_cell {post : Int32 → Prop} {L : Nat} {xs : Nat → Int32} (i : Nat) (hL : L ≤ 4) (hi : i < 4) (h : ∀ r : Int32, post r) : wpL_cellAt post L xs () (nI i) :=
  pk_le L i (fun _ => h _) (fun z => ⟨pk_in i L z, h _⟩)
theorem i_vc (xs : Nat → Int32) (L : Nat) (hL : L ≤ 4) : wpL_law (fun r => r = 1) L xs := by
  unfold wpL_law
  refine ib_cell 0 hL (by omega) (fun r1 => ?_)
  refine ib_cell 1 hL (by omega) (fun r2 => ?_)
  refine ib_cell 2 hL (by omega) (fun r3 => ?_)
  refine ib_cell 3 hL (by omega) (fun r4 => ?_)
  exact ⟨156, 2496, by omega, by omega, ib_law r1 r2 r3 r4⟩
end
