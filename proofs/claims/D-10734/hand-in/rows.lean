section
/-! pure pictures (naturals alone) and the rows that carry Int32 to them -/
def cd_pA (s : Nat) : Nat → Nat
  | 0 => 0
  | i + 1 => cd_pA s i + s / 2 ^ i % 2
def cd_pt (s : Nat) : Nat := cd_pA s 5
/-- is j held once the simplex m was added -/
def cd_hd (m j : Nat) : Bool := (j &&& m) == j && !(j == 0)
def cd_in (m p j : Nat) : Bool := cd_hd m j && cd_pt j == p
/-- how many held simplices of p points stand below i -/
def cd_cA (m p : Nat) : Nat → Nat
  | 0 => 0
  | i + 1 => cd_cA m p i + (if cd_in m p i = true then 1 else 0)
def cd_cnt (m p : Nat) : Nat := cd_cA m p 32
def cd_plc (m s : Nat) : Nat := cd_cA m (cd_pt s) s
def cd_sA (m p i : Nat) : Nat → Nat
  | 0 => 0
  | j + 1 => if (cd_in m p j && cd_cA m p j == i) = true then j else cd_sA m p i j
def cd_sf (m p i : Nat) : Nat := cd_sA m p i 32
def cd_fA (m s : Nat) : Nat → Nat
  | 0 => 0
  | x + 1 => if s / 2 ^ x % 2 = 0 then cd_fA m s x else cd_fA m s x ^^^ 2 ^ cd_plc m (s &&& (31 - 2 ^ x))
def cd_fc (m s : Nat) : Nat := cd_fA m s 5
def cd_dA (m k c : Nat) : Nat → Nat
  | 0 => 0
  | j + 1 => if k = 0 then cd_dA m k c j else if c / 2 ^ j % 2 = 0 then cd_dA m k c j else cd_dA m k c j ^^^ cd_fc m (cd_sf m (k + 1) j)
def cd_bd (m k c : Nat) : Nat := cd_dA m k c 10
def cd_rA (R : Nat → Nat) : Nat → Nat → Nat
  | 0, l => l
  | b + 1, l => cd_rA R b (if R b = 0 then l else if l / 2 ^ b % 2 = 0 then l else l ^^^ R b)
def cd_gA (l : Nat) : Nat → Nat
  | 0 => 0
  | b + 1 => if l / 2 ^ b % 2 = 0 then cd_gA l b else b
def cd_hg (l : Nat) : Nat := cd_gA l 10
def cd_uN (R : Nat → Nat) (k v : Nat) : Nat → Nat := fun j => if j = k then v else R j
/-- one column: the reduced boundary l goes into the rows, unless it is 0 -/
def cd_eS (q : Nat × (Nat → Nat)) (l : Nat) : Nat × (Nat → Nat) := if l = 0 then q else (q.1 + 1, cd_uN q.2 (cd_hg l) l)
def cd_eA (m k : Nat) : Nat → Nat × (Nat → Nat)
  | 0 => (0, fun _ => 0)
  | i + 1 => cd_eS (cd_eA m k i) (cd_rA (cd_eA m k i).2 10 (cd_bd m k (2 ^ i)))
def cd_rk (m k : Nat) : Nat := (cd_eA m k (cd_cnt m (k + 1))).1
def cd_hol (m k : Nat) : Nat := if k = 0 ∧ m ≠ 0 then 1 else 0
def cd_aA (m : Nat) : Nat → Int32
  | 0 => 0
  | k + 1 => if k % 2 = 0 then cd_aA m k + nI (cd_cnt m (k + 1)) else cd_aA m k + (-nI (cd_cnt m (k + 1)))
def cd_nA (m : Nat) : Nat → Nat
  | 0 => 0
  | i + 1 => cd_nA m i + (if cd_hd m i = true then 1 else 0)
def cd_cE (x7 x1 : Int32) : Int32 := if x7 = 0 then 0 else if x1 = 0 then x7 else if x1 = 1 then (x7 * (x7 - 1)) / 2 else if x1 = 2 then ((x7 * (x7 - 1)) * (x7 - 2)) / 6 else if x1 = 3 then (if x7 = 4 then 1 else if x7 = 5 then 5 else 0) else if x7 = 5 then 1 else 0
/-- the held array against the picture -/
def cd_H (m : Nat) (a : Nat → Int32) : Prop := ∀ j, j < 32 → a j = if cd_hd m j = true then 1 else 0

theorem cd_pA_le (s : Nat) : ∀ i, cd_pA s i ≤ i
  | 0 => Nat.le_refl 0
  | i + 1 => by
    have h := cd_pA_le s i
    show cd_pA s i + s / 2 ^ i % 2 ≤ i + 1
    have h2 : s / 2 ^ i % 2 < 2 := Nat.mod_lt _ (by omega)
    omega
theorem cd_pt_le (s : Nat) : cd_pt s ≤ 5 := cd_pA_le s 5
theorem cd_hd0 (m : Nat) : cd_hd m 0 = false := by
  unfold cd_hd
  exact Bool.and_false _
theorem cd_in0 (m p : Nat) : cd_in m p 0 = false := by
  unfold cd_in
  rw [cd_hd0]
  rfl
theorem cd_cAt {m p i : Nat} (h : cd_in m p i = true) : cd_cA m p (i + 1) = cd_cA m p i + 1 := by
  show cd_cA m p i + (if cd_in m p i = true then 1 else 0) = _
  rw [if_pos h]
theorem cd_cAf {m p i : Nat} (h : ¬ cd_in m p i = true) : cd_cA m p (i + 1) = cd_cA m p i := by
  show cd_cA m p i + (if cd_in m p i = true then 1 else 0) = _
  rw [if_neg h]
  rfl
theorem cd_cA1 (m p : Nat) : cd_cA m p 1 = 0 := by
  rw [cd_cAf (by rw [cd_in0]; decide)]
  rfl
theorem cd_cA_le (m p : Nat) : ∀ i, cd_cA m p (i + 1) ≤ i
  | 0 => Nat.le_of_eq (cd_cA1 m p)
  | i + 1 => by
    have h := cd_cA_le m p i
    by_cases e : cd_in m p (i + 1) = true
    · rw [cd_cAt e]; omega
    · rw [cd_cAf e]; omega
theorem cd_cA_lt (m p i : Nat) (h : i ≤ 32) : cd_cA m p i ≤ 31 := by
  cases i with
  | zero => exact Nat.zero_le _
  | succ i => exact Nat.le_trans (cd_cA_le m p i) (by omega)
theorem cd_cA_lt2 (m p i : Nat) (h : i ≤ 31) : cd_cA m p i ≤ 30 := by
  cases i with
  | zero => exact Nat.zero_le _
  | succ i => exact Nat.le_trans (cd_cA_le m p i) (by omega)
theorem cd_cA_mono (m p i : Nat) : ∀ d, cd_cA m p i ≤ cd_cA m p (i + d)
  | 0 => Nat.le_refl _
  | d + 1 => by
    have h := cd_cA_mono m p i d
    show _ ≤ cd_cA m p (i + d + 1)
    by_cases e : cd_in m p (i + d) = true
    · rw [cd_cAt e]; omega
    · rw [cd_cAf e]; omega
theorem cd_uq1 {m p i j : Nat} (hi : cd_in m p i = true) (h : i < j) : cd_cA m p i < cd_cA m p j := by
  have h1 := cd_cA_mono m p (i + 1) (j - (i + 1))
  rw [cd_cAt hi, show i + 1 + (j - (i + 1)) = j by omega] at h1
  omega
theorem cd_uq {m p i j : Nat} (hi : cd_in m p i = true) (hj : cd_in m p j = true) (h : cd_cA m p i = cd_cA m p j) : i = j := by
  rcases Nat.lt_trichotomy i j with z | z | z
  · have := cd_uq1 hi z; omega
  · exact z
  · have := cd_uq1 hj z; omega
theorem cd_sA_eq {m p i s : Nat} (hs : cd_in m p s = true) (hc : cd_cA m p s = i) : ∀ n, s < n → cd_sA m p i n = s
  | 0, h => absurd h (by omega)
  | n + 1, h => by
    show (if (cd_in m p n && cd_cA m p n == i) = true then n else cd_sA m p i n) = s
    by_cases e : (cd_in m p n && cd_cA m p n == i) = true
    · rw [if_pos e]
      rw [Bool.and_eq_true, beq_iff_eq] at e
      exact cd_uq e.1 hs (by rw [e.2, hc])
    · rw [if_neg e]
      by_cases g : s = n
      · subst g
        exact absurd (by rw [Bool.and_eq_true, beq_iff_eq]; exact ⟨hs, hc⟩) e
      · exact cd_sA_eq hs hc n (by omega)
theorem cd_sA_lt (m p i : Nat) : ∀ n, n ≤ 32 → cd_sA m p i n < 32
  | 0, _ => by show 0 < 32; decide
  | n + 1, h => by
    show (if (cd_in m p n && cd_cA m p n == i) = true then n else cd_sA m p i n) < 32
    by_cases e : (cd_in m p n && cd_cA m p n == i) = true
    · rw [if_pos e]; omega
    · rw [if_neg e]; exact cd_sA_lt m p i n (by omega)
theorem cd_sf_lt (m p i : Nat) : cd_sf m p i < 32 := cd_sA_lt m p i 32 (Nat.le_refl _)
theorem cd_p30 : ∀ n, n ≤ 30 → 2 ^ n < 2 ^ 31 := fun n h => Nat.pow_lt_pow_right (by decide) (by omega)
theorem cd_plc_le (m : Nat) {s : Nat} (h : s ≤ 31) : cd_plc m s ≤ 30 := cd_cA_lt2 m _ s h
theorem cd_fA_lt (m : Nat) {s : Nat} (h : s < 32) : ∀ x, cd_fA m s x < 2 ^ 31
  | 0 => by show 0 < 2 ^ 31; decide
  | x + 1 => by
    have ih := cd_fA_lt m h x
    show (if s / 2 ^ x % 2 = 0 then cd_fA m s x else cd_fA m s x ^^^ 2 ^ cd_plc m (s &&& (31 - 2 ^ x))) < 2 ^ 31
    by_cases e : s / 2 ^ x % 2 = 0
    · rw [if_pos e]; exact ih
    · rw [if_neg e]
      have h1 : s &&& (31 - 2 ^ x) ≤ s := Nat.and_le_left
      exact Nat.xor_lt_two_pow ih (cd_p30 _ (cd_plc_le m (by omega)))
theorem cd_dA_lt (m k c : Nat) : ∀ j, cd_dA m k c j < 2 ^ 31
  | 0 => by show 0 < 2 ^ 31; decide
  | j + 1 => by
    have ih := cd_dA_lt m k c j
    show (if k = 0 then cd_dA m k c j else if c / 2 ^ j % 2 = 0 then cd_dA m k c j else cd_dA m k c j ^^^ cd_fc m (cd_sf m (k + 1) j)) < 2 ^ 31
    by_cases e : k = 0
    · rw [if_pos e]; exact ih
    · rw [if_neg e]
      by_cases g : c / 2 ^ j % 2 = 0
      · rw [if_pos g]; exact ih
      · rw [if_neg g]
        exact Nat.xor_lt_two_pow ih (cd_fA_lt m (cd_sf_lt _ _ _) 5)
theorem cd_bd_lt (m k c : Nat) : cd_bd m k c < 2 ^ 31 := cd_dA_lt m k c 10
theorem cd_rA_lt {R : Nat → Nat} (hR : ∀ b, R b < 2 ^ 31) : ∀ b l, l < 2 ^ 31 → cd_rA R b l < 2 ^ 31
  | 0, l, h => h
  | b + 1, l, h => by
    show cd_rA R b (if R b = 0 then l else if l / 2 ^ b % 2 = 0 then l else l ^^^ R b) < 2 ^ 31
    refine cd_rA_lt hR b _ ?_
    by_cases e : R b = 0
    · rw [if_pos e]; exact h
    · rw [if_neg e]
      by_cases g : l / 2 ^ b % 2 = 0
      · rw [if_pos g]; exact h
      · rw [if_neg g]; exact Nat.xor_lt_two_pow h (hR b)
theorem cd_gA_le (l : Nat) : ∀ b, cd_gA l (b + 1) ≤ b
  | 0 => by
    show (if l / 2 ^ 0 % 2 = 0 then 0 else 0) ≤ 0
    by_cases e : l / 2 ^ 0 % 2 = 0
    · rw [if_pos e]; exact Nat.le_refl 0
    · rw [if_neg e]; exact Nat.le_refl 0
  | b + 1 => by
    show (if l / 2 ^ (b + 1) % 2 = 0 then cd_gA l (b + 1) else b + 1) ≤ b + 1
    by_cases e : l / 2 ^ (b + 1) % 2 = 0
    · rw [if_pos e]
      exact Nat.le_succ_of_le (cd_gA_le l b)
    · rw [if_neg e]; exact Nat.le_refl _
theorem cd_hg_lt (l : Nat) : cd_hg l < 10 := Nat.lt_succ_of_le (cd_gA_le l 9)
theorem cd_eS0 {q : Nat × (Nat → Nat)} {l : Nat} (h : l = 0) : cd_eS q l = q := if_pos h
theorem cd_eS1 {q : Nat × (Nat → Nat)} {l : Nat} (h : l ≠ 0) : cd_eS q l = (q.1 + 1, cd_uN q.2 (cd_hg l) l) := if_neg h
theorem cd_eA_ok (m k : Nat) : ∀ i, (cd_eA m k i).1 ≤ i ∧ ∀ b, (cd_eA m k i).2 b < 2 ^ 31
  | 0 => ⟨Nat.le_refl 0, fun _ => by show 0 < 2 ^ 31; decide⟩
  | i + 1 => by
    have ih := cd_eA_ok m k i
    show (cd_eS (cd_eA m k i) (cd_rA (cd_eA m k i).2 10 (cd_bd m k (2 ^ i)))).1 ≤ i + 1 ∧ ∀ b, (cd_eS (cd_eA m k i) (cd_rA (cd_eA m k i).2 10 (cd_bd m k (2 ^ i)))).2 b < 2 ^ 31
    have hl : cd_rA (cd_eA m k i).2 10 (cd_bd m k (2 ^ i)) < 2 ^ 31 := cd_rA_lt ih.2 10 _ (cd_bd_lt _ _ _)
    generalize cd_rA (cd_eA m k i).2 10 (cd_bd m k (2 ^ i)) = l at hl
    by_cases e : l = 0
    · rw [cd_eS0 e]
      exact ⟨Nat.le_succ_of_le ih.1, ih.2⟩
    · rw [cd_eS1 e]
      refine ⟨Nat.succ_le_succ ih.1, fun b => ?_⟩
      show (if b = cd_hg l then l else (cd_eA m k i).2 b) < 2 ^ 31
      by_cases g : b = cd_hg l
      · rw [if_pos g]; exact hl
      · rw [if_neg g]; exact ih.2 b
theorem cd_nA_le (m : Nat) : ∀ i, cd_nA m i ≤ i
  | 0 => Nat.le_refl 0
  | i + 1 => by
    have h := cd_nA_le m i
    show cd_nA m i + (if cd_hd m i = true then 1 else 0) ≤ i + 1
    by_cases e : cd_hd m i = true
    · rw [if_pos e]; omega
    · rw [if_neg e]; omega

/-! Int32 -/
theorem cd_sU : ∀ n, n < 32 → (((nI n).toUInt32 &&& Int32.toUInt32 31).toBitVec % 32).toNat = n := by decide +kernel
theorem cd_sL : ∀ n, n < 32 → ((nI n &&& 31).toBitVec.smod 32).toNat = n := by decide +kernel
theorem cd_one : ∀ n, n < 31 → (1 : Int32) <<< (nI n &&& 31) = nI (2 ^ n) := by decide +kernel
theorem cd_clr : ∀ s, s < 32 → ∀ x, x < 5 → nI s &&& (((1 : Int32) <<< (nI x &&& 31)) ^^^ (-1)) = nI (s &&& (31 - 2 ^ x)) := by decide +kernel
theorem cd_xor (a b : Nat) : nI a ^^^ nI b = nI (a ^^^ b) := by
  apply Int32.toBitVec_inj.1
  show BitVec.ofNat 32 a ^^^ BitVec.ofNat 32 b = BitVec.ofNat 32 (a ^^^ b)
  apply BitVec.eq_of_getLsbD_eq
  intro i hi
  simp [hi]
theorem cd_bit {v j : Nat} (hv : v < 2 ^ 31) (hj : j < 32) : (((nI v).toUInt32 >>> ((nI j).toUInt32 &&& Int32.toUInt32 31)).toInt32 &&& 1) = nI (v / 2 ^ j % 2) := by
  rw [pk_ushrN (by omega) (nI j) j (cd_sU j hj)]
  have h : v / 2 ^ j ≤ v := Nat.div_le_self _ _
  exact pk_andN (by omega) 1 (by decide)
theorem cd_bitS {v j : Nat} (hv : v < 2 ^ 31) (hj : j < 32) : (nI v >>> (nI j &&& 31)) &&& 1 = nI (v / 2 ^ j % 2) := by
  rw [pk_shrN hv (nI j &&& 31) j (cd_sL j hj)]
  have h : v / 2 ^ j ≤ v := Nat.div_le_self _ _
  exact pk_andN (by omega) 1 (by decide)
theorem cd_b2 (v j : Nat) : v / 2 ^ j % 2 < 2 ^ 31 := Nat.lt_of_lt_of_le (Nat.mod_lt _ (by decide)) (by decide)
theorem cd_a0 (x : Int32) : x + 0 = x := Int32.add_zero x
theorem cd_c1 {m p i : Nat} (h : cd_in m p i = true) : nI (cd_cA m p i) + 1 = nI (cd_cA m p (i + 1)) := by rw [nI_1, cd_cAt h]
theorem cd_c0 {m p i : Nat} (h : ¬ cd_in m p i = true) : nI (cd_cA m p i) + 0 = nI (cd_cA m p (i + 1)) := by rw [cd_a0, cd_cAf h]
end
section
/-! the methods that only read: points, countOf, placeOf, simplexAt, facesOf, boundaryOf -/
theorem cd_points {post : Int32 → Prop} {s : Nat} (hs : s < 2 ^ 31) (h : post (nI (cd_pt s))) : wpX_points post () (nI s) := by
  unfold wpX_points
  exact pk_loop (σ := Unit) (fun n i _ => wX_points_4 post (nI s) n (nI (cd_pA s i)) (nI i)) (fun _ _ => True) 5 0 () (by omega) trivial
    (fun n _ _ => pk_le 5 5 (fun _ => h) (fun z => absurd z (by omega)))
    (fun n i _ hi _ hw => pk_le 5 i (fun z => absurd z (by omega)) (fun _ => nm_r (by rw [cd_bit hs (by omega), nI_add]; rfl) (nm_r (nI_1 i) (hw () trivial))))
theorem cd_hv {m i : Nat} {a1 : Nat → Int32} (hH : cd_H m a1) (hi : i < 32) : a1 (nI i).toNatClampNeg = if cd_hd m i = true then 1 else 0 := by
  rw [nI_clamp (by omega)]
  exact hH i hi
theorem cd_hvt {m i : Nat} {a1 : Nat → Int32} (hH : cd_H m a1) (hi : i < 32) (h : cd_hd m i = true) : ¬ a1 (nI i).toNatClampNeg = 0 := by
  rw [cd_hv hH hi, if_pos h]
  decide
theorem cd_hvf {m i : Nat} {a1 : Nat → Int32} (hH : cd_H m a1) (hi : i < 32) (h : ¬ cd_hd m i = true) : a1 (nI i).toNatClampNeg = 0 := by
  rw [cd_hv hH hi, if_neg h]
theorem cd_inI {m p i : Nat} (h : cd_hd m i = true) (e : cd_pt i = p) : cd_in m p i = true := by
  unfold cd_in
  rw [h, e]
  exact beq_self_eq_true p
theorem cd_inN {m p i : Nat} (h : ¬ cd_hd m i = true) : ¬ cd_in m p i = true := by
  unfold cd_in
  rw [Bool.and_eq_true]
  exact fun z => h z.1
theorem cd_inM {m p i : Nat} (e : cd_pt i ≠ p) : ¬ cd_in m p i = true := by
  unfold cd_in
  rw [Bool.and_eq_true, beq_iff_eq]
  exact fun z => e z.2
theorem cd_countOf {post : Int32 → Prop} {m k : Nat} {fr fl ft : Int32} {a1 a2 a3 a4 : Nat → Int32} (hH : cd_H m a1) (hk : k < 100) (h : post (nI (cd_cnt m (k + 1)))) : wpX_countOf post (fr, fl, ft, a1, a2, a3, a4) (nI k) := by
  unfold wpX_countOf
  have t := pk_loop (σ := Unit) (fun n i _ => wX_countOf_4 post (nI k) fr fl ft a1 a2 a3 a4 n (nI (cd_cA m (k + 1) i)) (nI i)) (fun _ _ => True) 32 1 () (by omega) trivial
    (fun n _ _ => pk_le 32 32 (fun _ => h) (fun z => absurd z (by omega)))
    (fun n i _ hi _ hw => pk_le 32 i (fun z => absurd z (by omega)) (fun _ => ⟨pk_in i 32 hi, by
      have hp := cd_pt_le i
      by_cases e : cd_hd m i = true
      · exact br_f (cd_hvt hH hi e) (cd_points (by omega) (pk_eq (cd_pt i) (k + 1) (fun z => nm_r (cd_c1 (cd_inI e z)) (nm_r (nI_1 i) (hw () trivial))) (fun z => nm_r (cd_c0 (cd_inM z)) (nm_r (nI_1 i) (hw () trivial))) rfl (nI_1 k)))
      · exact br_t (cd_hvf hH hi e) (nm_r (cd_c0 (cd_inN e)) (nm_r (nI_1 i) (hw () trivial)))⟩))
  rw [cd_cA1] at t
  exact t
theorem cd_placeOf {post : Int32 → Prop} {m s : Nat} {x fr fl ft : Int32} {a1 a2 a3 a4 : Nat → Int32} (hH : cd_H m a1) (hs : s < 32) (hx : x = nI s) (h : post (nI (cd_plc m s))) : wpX_placeOf post (fr, fl, ft, a1, a2, a3, a4) x := by
  subst hx
  unfold wpX_placeOf
  refine cd_points (by omega) ?_
  by_cases h0 : s = 0
  · subst h0
    exact ⟨1, pk_le 0 1 (fun _ => h) (fun z => absurd z (by omega))⟩
  · have t := pk_loop (σ := Unit) (fun n i _ => wX_placeOf_10 post (nI s) (nI (cd_pt s)) fr fl ft a1 a2 a3 a4 n (nI (cd_cA m (cd_pt s) i)) (nI i)) (fun _ _ => True) s 1 () (by omega) trivial
      (fun n _ _ => pk_le s s (fun _ => h) (fun z => absurd z (by omega)))
      (fun n i _ hi _ hw => pk_le s i (fun z => absurd z (by omega)) (fun _ => ⟨pk_in i 32 (by omega), by
        have hp := cd_pt_le i
        have hq := cd_pt_le s
        by_cases e : cd_hd m i = true
        · exact br_f (cd_hvt hH (by omega) e) (cd_points (by omega) (pk_eq (cd_pt i) (cd_pt s) (fun z => nm_r (cd_c1 (cd_inI e z)) (nm_r (nI_1 i) (hw () trivial))) (fun z => nm_r (cd_c0 (cd_inM z)) (nm_r (nI_1 i) (hw () trivial)))))
        · exact br_t (cd_hvf hH (by omega) e) (nm_r (cd_c0 (cd_inN e)) (nm_r (nI_1 i) (hw () trivial)))⟩))
    rw [cd_cA1] at t
    exact t
theorem cd_simplexAt {post : Int32 → Prop} {m k i : Nat} {fr fl ft : Int32} {a1 a2 a3 a4 : Nat → Int32} (hH : cd_H m a1) (hk : k < 100) (hi : i < cd_cnt m (k + 1)) (h : ∀ s, s < 32 → cd_in m (k + 1) s = true → cd_cA m (k + 1) s = i → post (nI s)) : wpX_simplexAt post (fr, fl, ft, a1, a2, a3, a4) (nI k) (nI i) := by
  unfold wpX_simplexAt
  have hi31 : i < 32 := Nat.lt_of_lt_of_le hi (Nat.le_trans (cd_cA_lt m (k + 1) 32 (by omega)) (by omega))
  have t := pk_loop (σ := Unit) (fun n j _ => wX_simplexAt_5 post (nI k) fr fl ft a1 a2 a3 a4 n (nI (i - cd_cA m (k + 1) j)) (nI j)) (fun j _ => cd_cA m (k + 1) j ≤ i) 32 1 () (by omega) (by rw [cd_cA1]; omega)
    (fun n _ hI => absurd (show cd_cnt m (k + 1) ≤ i from hI) (by omega))
    (fun n j _ hj hI hw => pk_le 32 j (fun z => absurd z (by omega)) (fun _ => ⟨pk_in j 32 hj, by
      have hp := cd_pt_le j
      have w1 : cd_cA m (k + 1) (j + 1) ≤ i → wX_simplexAt_5 post (nI k) fr fl ft a1 a2 a3 a4 n (nI (i - cd_cA m (k + 1) (j + 1))) (nI (j + 1)) := fun z => hw () z
      have hI' : cd_cA m (k + 1) j ≤ i := hI
      by_cases e : cd_hd m j = true
      · refine br_f (cd_hvt hH hj e) (cd_points (by omega) (pk_eq (cd_pt j) (k + 1) (fun z => ?_) (fun z => ?_) rfl (nI_1 k)))
        · have ei := cd_inI (m := m) e z
          rw [cd_cAt ei] at w1
          refine pk_eq (i - cd_cA m (k + 1) j) 0 (fun y => h j hj ei (by omega)) (fun y => nm_r (e' := nI (i - (cd_cA m (k + 1) j + 1))) ?_ (nm_r (nI_1 j) (w1 (by omega))))
          rw [show i - cd_cA m (k + 1) j = i - (cd_cA m (k + 1) j + 1) + 1 by omega]
          exact pk_m1 _
        · rw [cd_cAf (cd_inM z)] at w1
          exact nm_r (nI_1 j) (w1 hI')
      · rw [cd_cAf (cd_inN e)] at w1
        exact br_t (cd_hvf hH hj e) (nm_r (nI_1 j) (w1 hI'))⟩))
  rw [cd_cA1] at t
  exact t
theorem cd_facesOf {post : Int32 → Prop} {m s : Nat} {fr fl ft : Int32} {a1 a2 a3 a4 : Nat → Int32} (hH : cd_H m a1) (hs : s < 32) (h : post (nI (cd_fc m s))) : wpX_facesOf post (fr, fl, ft, a1, a2, a3, a4) (nI s) := by
  unfold wpX_facesOf
  exact pk_loop (σ := Unit) (fun n x _ => wX_facesOf_4 post (nI s) fr fl ft a1 a2 a3 a4 n (nI (cd_fA m s x)) (nI x)) (fun _ _ => True) 5 0 () (by omega) trivial
    (fun n _ _ => pk_le 5 5 (fun _ => h) (fun z => absurd z (by omega)))
    (fun n x _ hx _ hw => pk_le 5 x (fun z => absurd z (by omega)) (fun _ => by
      have w1 : wX_facesOf_4 post (nI s) fr fl ft a1 a2 a3 a4 n (nI (if s / 2 ^ x % 2 = 0 then cd_fA m s x else cd_fA m s x ^^^ 2 ^ cd_plc m (s &&& (31 - 2 ^ x)))) (nI (x + 1)) := hw () trivial
      have hl : s &&& (31 - 2 ^ x) ≤ s := Nat.and_le_left
      have hb := cd_b2 s x
      refine pk_eq (s / 2 ^ x % 2) 0 (fun z => ?_) (fun z => ?_) (cd_bit (by omega) (by omega)) rfl hb
      · rw [if_pos z] at w1
        exact nm_r (nI_1 x) w1
      · rw [if_neg z] at w1
        refine cd_placeOf hH (Nat.lt_of_le_of_lt hl hs) (cd_clr s hs x hx) (nm_r ?_ (nm_r (nI_1 x) w1))
        rw [cd_one _ (Nat.lt_succ_of_le (cd_plc_le m (by omega))), cd_xor]))
theorem cd_boundaryOf {post : Int32 → Prop} {m k c : Nat} {fr fl ft : Int32} {a1 a2 a3 a4 : Nat → Int32} (hH : cd_H m a1) (hk : k < 100) (hc : c < 2 ^ 31) (hb : ∀ j, j < 10 → c / 2 ^ j % 2 ≠ 0 → j < cd_cnt m (k + 1)) (h : post (nI (cd_bd m k c))) : wpX_boundaryOf post (fr, fl, ft, a1, a2, a3, a4) (nI k) (nI c) := by
  unfold wpX_boundaryOf
  exact pk_loop (σ := Unit) (fun n j _ => wX_boundaryOf_5 post (nI k) (nI c) fr fl ft a1 a2 a3 a4 n (nI (cd_dA m k c j)) (nI j)) (fun _ _ => True) 10 0 () (by omega) trivial
    (fun n _ _ => pk_le 10 10 (fun _ => h) (fun z => absurd z (by omega)))
    (fun n j _ hj _ hw => pk_le 10 j (fun z => absurd z (by omega)) (fun _ => by
      have w1 : wX_boundaryOf_5 post (nI k) (nI c) fr fl ft a1 a2 a3 a4 n (nI (if k = 0 then cd_dA m k c j else if c / 2 ^ j % 2 = 0 then cd_dA m k c j else cd_dA m k c j ^^^ cd_fc m (cd_sf m (k + 1) j))) (nI (j + 1)) := hw () trivial
      have hB := cd_b2 c j
      refine pk_le k 0 (fun z => ?_) (fun z => ?_)
      · rw [if_pos (by omega)] at w1
        exact nm_r (nI_1 j) w1
      · rw [if_neg (by omega)] at w1
        refine pk_eq (c / 2 ^ j % 2) 0 (fun z => ?_) (fun z => ?_) (cd_bit hc (by omega)) rfl hB
        · rw [if_pos z] at w1
          exact nm_r (nI_1 j) w1
        · rw [if_neg z] at w1
          refine cd_simplexAt hH hk (hb j hj z) (fun s hs hi hcs => ?_)
          rw [show cd_sf m (k + 1) j = s from cd_sA_eq hi hcs 32 hs] at w1
          exact cd_facesOf hH hs (nm_r (cd_xor _ _) (nm_r (nI_1 j) w1))))
end
section
/-! the methods that store: reduce, highest, addCycle, eliminate, holes; add, remove; alternating -/
theorem cd_reduce {post : St2 → Prop} {R : Nat → Nat} {l : Nat} {fr fl ft : Int32} {a1 a2 a3 a4 : Nat → Int32} (hR : ∀ b, b < 10 → a2 b = nI (R b)) (hB : ∀ b, R b < 2 ^ 31) (hl : l < 2 ^ 31) (h : ∀ t, post (fr, nI (cd_rA R 10 l), t, a1, a2, a3, a4)) : wpX_reduce post (fr, fl, ft, a1, a2, a3, a4) (nI l) := by
  unfold wpX_reduce
  have t := pk_loopD (σ := Nat × Int32) (fun n i s => ∀ x, x = nI i + (-1) → wX_reduce_13 post fr a1 a2 a3 a4 n x (nI s.1) s.2) (fun i s => i ≤ 10 ∧ s.1 < 2 ^ 31 ∧ cd_rA R i s.1 = cd_rA R 10 l)
    (fun n s hI x hx => by
      subst hx
      have e : s.1 = cd_rA R 10 l := hI.2.2
      refine br_t (by decide) ?_
      rw [e]
      exact h s.2)
    (fun n i s hI hw x hx => by
      rw [pk_m1] at hx
      subst hx
      obtain ⟨hi, hs, he⟩ := hI
      have he' : cd_rA R i (if R i = 0 then s.1 else if s.1 / 2 ^ i % 2 = 0 then s.1 else s.1 ^^^ R i) = cd_rA R 10 l := he
      have hv : a2 (nI i).toNatClampNeg = nI (R i) := by
        rw [nI_clamp (by omega)]
        exact hR i (by omega)
      have hb := hB i
      refine br_f (nI_pos (by omega)) ⟨pk_in i 10 (by omega), ?_⟩
      rw [hv]
      refine pk_eq (R i) 0 (fun z => ?_) (fun z => ?_) rfl rfl hb
      · rw [if_pos z] at he'
        exact nm_e (hw (s.1, s.2) ⟨by omega, hs, he'⟩ _ rfl)
      · rw [if_neg z] at he'
        refine pk_eq (s.1 / 2 ^ i % 2) 0 (fun y => ?_) (fun y => ?_) (cd_bit hs (by omega)) rfl (cd_b2 _ _)
        · rw [if_pos y] at he'
          exact nm_e (hw (s.1, s.2) ⟨by omega, hs, he'⟩ _ rfl)
        · rw [if_neg y] at he'
          exact ⟨pk_in i 10 (by omega), nm_r (cd_xor _ _) ⟨pk_in i 10 (by omega), fun f _ => nm_e (hw (s.1 ^^^ R i, f) ⟨by omega, Nat.xor_lt_two_pow hs hb, he'⟩ _ rfl)⟩⟩) 10 (l, 0) ⟨Nat.le_refl _, hl, rfl⟩
  exact ⟨11, t 9 (by decide)⟩
theorem cd_highest {post : Int32 → Prop} {l : Nat} (hl : l < 2 ^ 31) (h : post (nI (cd_hg l))) : wpX_highest post () (nI l) := by
  unfold wpX_highest
  exact pk_loop (σ := Unit) (fun n i _ => wX_highest_4 post (nI l) n (nI (cd_gA l i)) (nI i)) (fun _ _ => True) 10 0 () (by omega) trivial
    (fun n _ _ => pk_le 10 10 (fun _ => h) (fun z => absurd z (by omega)))
    (fun n i _ hi _ hw => pk_le 10 i (fun z => absurd z (by omega)) (fun _ => by
      have w1 : wX_highest_4 post (nI l) n (nI (if l / 2 ^ i % 2 = 0 then cd_gA l i else i)) (nI (i + 1)) := hw () trivial
      refine pk_eq (l / 2 ^ i % 2) 0 (fun y => ?_) (fun y => ?_) (cd_bit hl (by omega)) rfl (cd_b2 _ _)
      · rw [if_pos y] at w1
        exact nm_r (nI_1 i) w1
      · rw [if_neg y] at w1
        exact nm_r (nI_1 i) w1))
theorem cd_addCycle {post : St2 → Prop} {c fr fl ft : Int32} {a1 a2 a3 a4 : Nat → Int32} (h : ∀ b4, post (fr, fl, ft, a1, a2, a3, b4)) : wpX_addCycle post (fr, fl, ft, a1, a2, a3, a4) c := by
  unfold wpX_addCycle
  have t := pk_loopD (σ := Int32) (fun n i s => ∀ x, x = nI i + (-1) → wX_addCycle_5 post fr fl ft a1 a2 a3 a4 n s x) (fun i _ => i ≤ 10)
    (fun n s _ x hx => by
      subst hx
      exact br_t (by decide) (h a4))
    (fun n i s hI hw x hx => by
      rw [pk_m1] at hx
      subst hx
      have hi : i + 1 ≤ 10 := hI
      refine br_f (nI_pos (by omega)) (br_c (fun _ => nm_e (hw s (show i ≤ 10 by omega) _ rfl)) (fun _ => ⟨pk_in i 10 (by omega), br_c (fun _ => ⟨pk_in i 10 (by omega), nm_e (h _)⟩) (fun _ => ⟨pk_in i 10 (by omega), nm_e (nm_e (hw _ (show i ≤ 10 by omega) _ rfl))⟩)⟩))) 10 c (Nat.le_refl _)
  exact ⟨11, t 9 (by decide)⟩
theorem cd_2b : ∀ i, i < 31 → ∀ j, j < 10 → 2 ^ i / 2 ^ j % 2 ≠ 0 → j = i := by decide +kernel
theorem cd_up {R : Nat → Nat} {a : Nat → Int32} {g l : Nat} (hg : g < 10) (hR : ∀ b, b < 10 → a b = nI (R b)) : ∀ b, b < 10 → upd a (nI g).toNatClampNeg (nI l) b = nI (cd_uN R g l b) := by
  intro b hb
  rw [nI_clamp (by omega)]
  show (if b = g then nI l else a b) = nI (if b = g then l else R b)
  by_cases e : b = g
  · rw [if_pos e, if_pos e]
  · rw [if_neg e, if_neg e]
    exact hR b hb
theorem cd_elim57 {post : St2 → Prop} {m k N : Nat} {fr fl ft : Int32} {a1 a2 a3 a4 : Nat → Int32} (hH : cd_H m a1) (hk : k < 100) (hN : N ≤ cd_cnt m (k + 1)) (h0 : fr = 0) (hz : ∀ b, b < 10 → a2 b = 0) (h : ∀ fl ft b2 b3 b4, post (nI (cd_eA m k N).1, fl, ft, a1, b2, b3, b4)) : ∃ n, wX_eliminate_57 post (nI k) (nI N) n 0 fr fl ft a1 a2 a3 a4 := by
  have hN31 : N ≤ 31 := Nat.le_trans hN (cd_cA_lt m (k + 1) 32 (by omega))
  exact pk_loop (σ := Int32 × Int32 × Int32 × (Nat → Int32) × (Nat → Int32) × (Nat → Int32)) (fun n i s => wX_eliminate_57 post (nI k) (nI N) n (nI i) s.1 s.2.1 s.2.2.1 a1 s.2.2.2.1 s.2.2.2.2.1 s.2.2.2.2.2)
    (fun i s => s.1 = nI (cd_eA m k i).1 ∧ ∀ b, b < 10 → s.2.2.2.1 b = nI ((cd_eA m k i).2 b)) N 0 (fr, fl, ft, a2, a3, a4) (by omega) ⟨h0, hz⟩
    (fun n s hI => pk_le N N (fun _ => by
      obtain ⟨r, fl, ft, b2, b3, b4⟩ := s
      have e : r = nI (cd_eA m k N).1 := hI.1
      subst e
      exact h fl ft b2 b3 b4) (fun z => absurd z (by omega)))
    (fun n i s hi hI hw => pk_le N i (fun z => absurd z (by omega)) (fun _ => by
      obtain ⟨r, fl, ft, b2, b3, b4⟩ := s
      have e : r = nI (cd_eA m k i).1 := hI.1
      have hR : ∀ b, b < 10 → b2 b = nI ((cd_eA m k i).2 b) := hI.2
      subst e
      have ok := cd_eA_ok m k i
      have w1 : ∀ (r fl ft : Int32) (b2 b3 b4 : Nat → Int32), r = nI (cd_eS (cd_eA m k i) (cd_rA (cd_eA m k i).2 10 (cd_bd m k (2 ^ i)))).1 → (∀ b, b < 10 → b2 b = nI ((cd_eS (cd_eA m k i) (cd_rA (cd_eA m k i).2 10 (cd_bd m k (2 ^ i)))).2 b)) → wX_eliminate_57 post (nI k) (nI N) n (nI (i + 1)) r fl ft a1 b2 b3 b4 := fun r fl ft b2 b3 b4 g1 g2 => hw (r, fl, ft, b2, b3, b4) ⟨g1, g2⟩
      have hl : cd_rA (cd_eA m k i).2 10 (cd_bd m k (2 ^ i)) < 2 ^ 31 := cd_rA_lt ok.2 10 _ (cd_bd_lt _ _ _)
      show wpX_boundaryOf _ _ (nI k) ((1 : Int32) <<< (nI i &&& 31))
      rw [cd_one i (by omega)]
      refine cd_boundaryOf hH hk (cd_p30 i (by omega)) (fun j hj hn => ?_) ?_
      · rw [cd_2b i (by omega) j hj hn]
        omega
      · refine cd_reduce hR ok.2 (cd_bd_lt _ _ _) (fun t => ?_)
        generalize cd_rA (cd_eA m k i).2 10 (cd_bd m k (2 ^ i)) = l at hl w1
        refine nm_e (pk_eq l 0 (fun z => ?_) (fun z => ?_) rfl rfl hl)
        · rw [cd_eS0 z] at w1
          exact cd_addCycle (fun c4 => nm_r (nI_1 i) (w1 _ _ _ _ _ _ rfl hR))
        · rw [cd_eS1 z] at w1
          have hg := cd_hg_lt l
          exact cd_highest hl ⟨pk_in _ 10 hg, nm_e ⟨pk_in _ 10 hg, nm_e (nm_r (nI_1 _) (nm_r (nI_1 i) (w1 _ _ _ _ _ _ rfl (cd_up hg hR))))⟩⟩))
theorem cd_elim7 {post : St2 → Prop} {x1 fr fl ft : Int32} {a1 a2 a3 a4 : Nat → Int32} (h : ∀ b2 b3 b4, (∀ b, b < 10 → b2 b = 0) → (((x1 ≤ 4 → (wpX_countOf (fun r_3 => (∃ fu57 : Nat, wX_eliminate_57 post x1 r_3 fu57 0 fr fl ft a1 b2 b3 b4)) (fr, fl, ft, a1, b2, b3, b4) x1)) ∧ (¬ x1 ≤ 4 → (∃ fu57 : Nat, wX_eliminate_57 post x1 0 fu57 0 fr fl ft a1 b2 b3 b4))))) : ∃ n, wX_eliminate_7 post x1 fr fl ft n 0 a1 a2 a3 a4 :=
  pk_loop (σ := (Nat → Int32) × (Nat → Int32) × (Nat → Int32)) (fun n i s => wX_eliminate_7 post x1 fr fl ft n (nI i) a1 s.1 s.2.1 s.2.2) (fun i s => ∀ b, b < i → s.1 b = 0) 10 0 (a2, a3, a4) (by omega) (fun b hb => absurd hb (by omega))
    (fun n s hI => pk_le 10 10 (fun _ => h s.1 s.2.1 s.2.2 hI) (fun z => absurd z (by omega)))
    (fun n i s hi hI hw => pk_le 10 i (fun z => absurd z (by omega)) (fun _ => ⟨pk_in i 10 hi, nm_e ⟨pk_in i 10 hi, nm_e ⟨pk_in i 10 hi, nm_e (nm_r (nI_1 i) (hw (_, _, _) (fun b hb => by
      have hI' : ∀ b, b < i → s.1 b = 0 := hI
      show upd s.1 (nI i).toNatClampNeg 0 b = 0
      rw [nI_clamp (by omega)]
      by_cases e : b = i
      · rw [e, pk_us]
      · rw [pk_un e]
        exact hI' b (by omega))))⟩⟩⟩))
theorem cd_elim {post : St2 → Prop} {m k : Nat} {fr fl ft : Int32} {a1 a2 a3 a4 : Nat → Int32} (hH : cd_H m a1) (hk : k < 5) (h : ∀ fl ft b2 b3 b4, post (nI (cd_rk m k), fl, ft, a1, b2, b3, b4)) : wpX_eliminate post (fr, fl, ft, a1, a2, a3, a4) (nI k) := by
  unfold wpX_eliminate
  exact cd_elim7 (fun b2 b3 b4 hz => pk_le k 4 (fun _ => cd_countOf hH (by omega) (cd_elim57 hH (by omega) (Nat.le_refl _) rfl hz h)) (fun z => absurd z (by omega)))
theorem cd_elim5 {post : St2 → Prop} {m : Nat} {fr fl ft : Int32} {a1 a2 a3 a4 : Nat → Int32} (hH : cd_H m a1) (h : ∀ fl ft b2 b3 b4, post (nI 0, fl, ft, a1, b2, b3, b4)) : wpX_eliminate post (fr, fl, ft, a1, a2, a3, a4) (nI 5) := by
  unfold wpX_eliminate
  exact cd_elim7 (fun b2 b3 b4 hz => pk_le 5 4 (fun z => absurd z (by omega)) (fun _ => cd_elim57 (k := 5) (N := 0) hH (by omega) (Nat.zero_le _) rfl hz h))
theorem cd_isDim {post : Int32 → Prop} {k : Nat} (hk : k < 5) (h : post 1) : wpX_isDimension post () (nI k) :=
  br_f (nI_pos (by omega)) (pk_lt 4 k (fun z => absurd z (by omega)) (fun _ => h))
theorem cd_noDim {post : Int32 → Prop} {x : Int32} (hx : x < 0 ∨ 4 < x) (h : post 0) : wpX_isDimension post () x := by
  unfold wpX_isDimension
  refine br_c (fun _ => h) (fun z => br_t ?_ h)
  rcases hx with y | y
  · exact absurd y z
  · exact y
theorem cd_hdT : ∀ m, m < 32 → ∀ i, i < 32 → i ≠ 0 → (nI i &&& (nI m ^^^ (-1)) = 0 ↔ cd_hd m i = true) := by decide +kernel
theorem cd_nA1 (m : Nat) : cd_nA m 1 = 0 := by
  show 0 + (if cd_hd m 0 = true then 1 else 0) = 0
  rw [cd_hd0]
  rfl
theorem cd_add {post : Int32 → St2 → Prop} {m : Nat} {fr fl ft : Int32} {a1 a2 a3 a4 : Nat → Int32} (hm : m < 32) (h1 : 1 ≤ m) (hz : ∀ j, a1 j = 0) (h : ∀ b1, cd_H m b1 → post (nI (cd_nA m 32)) (fr, fl, ft, b1, a2, a3, a4)) : wpX_add post (fr, fl, ft, a1, a2, a3, a4) (nI m) := by
  unfold wpX_add
  refine pk_lt m 1 (fun z => absurd z (by omega)) (fun _ => pk_le m 31 (fun _ => ?_) (fun z => absurd z (by omega)))
  have t := pk_loop (σ := Nat → Int32) (fun n i s => wX_add_17 post (nI m) fr fl ft n (nI (cd_nA m i)) (nI i) s a2 a3 a4) (fun i s => 1 ≤ i ∧ (∀ j, j < i → s j = if cd_hd m j = true then 1 else 0) ∧ ∀ j, i ≤ j → s j = 0) 32 1 a1 (by omega)
    ⟨Nat.le_refl _, fun j hj => by
      rw [show j = 0 by omega, cd_hd0, hz]
      rfl, fun j _ => hz j⟩
    (fun n s hI => pk_le 32 32 (fun _ => h s hI.2.1) (fun z => absurd z (by omega)))
    (fun n i s hi hI hw => pk_le 32 i (fun z => absurd z (by omega)) (fun _ => by
      obtain ⟨g0, g1, g2⟩ := hI
      have w1 : ∀ s', (1 ≤ i + 1 ∧ (∀ j, j < i + 1 → s' j = if cd_hd m j = true then 1 else 0) ∧ ∀ j, i + 1 ≤ j → s' j = 0) → wX_add_17 post (nI m) fr fl ft n (nI (cd_nA m i + (if cd_hd m i = true then 1 else 0))) (nI (i + 1)) s' a2 a3 a4 := fun s' z => hw s' z
      have hs0 : s (nI i).toNatClampNeg = 0 := by
        rw [nI_clamp (by omega)]
        exact g2 i (Nat.le_refl _)
      have hT := cd_hdT m hm i hi (by omega)
      by_cases e : cd_hd m i = true
      · rw [if_pos e] at w1
        refine br_t (hT.mpr e) ⟨pk_in i 32 hi, br_t hs0 ⟨pk_in i 32 hi, nm_e (nm_r (nI_1 _) (nm_r (nI_1 i) (w1 _ ⟨by omega, fun j hj => ?_, fun j hj => ?_⟩)))⟩⟩
        · rw [nI_clamp (by omega)]
          by_cases y : j = i
          · rw [y, pk_us, if_pos e]
          · rw [pk_un y]
            exact g1 j (by omega)
        · rw [nI_clamp (by omega), pk_un (by omega)]
          exact g2 j (by omega)
      · rw [if_neg e] at w1
        have w2 := w1 s ⟨by omega, fun j hj => by
          by_cases y : j = i
          · rw [y, if_neg e]
            exact g2 i (Nat.le_refl _)
          · exact g1 j (by omega), fun j hj => g2 j (by omega)⟩
        exact br_f (fun z => e (hT.mp z)) (nm_r (nI_1 i) w2)))
  rw [cd_nA1] at t
  exact t
theorem cd_remove {post : Int32 → St2 → Prop} {x fr fl ft : Int32} {a1 a2 a3 a4 : Nat → Int32} (h0 : (x < 1 ∨ ¬ x ≤ 31) → post (-1) (fr, fl, ft, a1, a2, a3, a4)) (h1 : ¬ x < 1 → x ≤ 31 → ∀ r b1, r ≤ 32 → post (nI r) (fr, fl, ft, b1, a2, a3, a4)) : wpX_remove post (fr, fl, ft, a1, a2, a3, a4) x := by
  unfold wpX_remove
  refine br_c (fun z => h0 (Or.inl z)) (fun z => br_c (fun y => ?_) (fun y => h0 (Or.inr y)))
  have t := pk_loop (σ := Nat × (Nat → Int32)) (fun n i s => wX_remove_17 post x fr fl ft n (nI s.1) (nI i) s.2 a2 a3 a4) (fun i s => s.1 ≤ i) 32 1 (0, a1) (by omega) (Nat.zero_le _)
    (fun n s hI => pk_le 32 32 (fun _ => h1 z y s.1 s.2 hI) (fun z => absurd z (by omega)))
    (fun n i s hi hI hw => pk_le 32 i (fun z => absurd z (by omega)) (fun _ => by
      have hI' : s.1 ≤ i := hI
      exact br_c (fun _ => ⟨pk_in i 32 hi, br_c (fun _ => nm_r (nI_1 i) (hw (s.1, s.2) (Nat.le_succ_of_le hI'))) (fun _ => ⟨pk_in i 32 hi, nm_e (nm_r (nI_1 _) (nm_r (nI_1 i) (hw (s.1 + 1, _) (Nat.succ_le_succ hI'))))⟩)⟩) (fun _ => nm_r (nI_1 i) (hw (s.1, s.2) (Nat.le_succ_of_le hI')))))
  exact t
theorem cd_alt {post : Int32 → Prop} {m : Nat} {fr fl ft : Int32} {a1 a2 a3 a4 : Nat → Int32} (hH : cd_H m a1) (h : post (cd_aA m 5)) : wpX_alternating post (fr, fl, ft, a1, a2, a3, a4) := by
  unfold wpX_alternating
  exact pk_loop (σ := Unit) (fun n k _ => wX_alternating_4 post fr fl ft a1 a2 a3 a4 n (cd_aA m k) (nI k)) (fun _ _ => True) 5 0 () (by omega) trivial
    (fun n _ _ => pk_le 5 5 (fun _ => h) (fun z => absurd z (by omega)))
    (fun n k _ hk _ hw => pk_le 5 k (fun z => absurd z (by omega)) (fun _ => cd_countOf hH (by omega) (by
      have w1 : wX_alternating_4 post fr fl ft a1 a2 a3 a4 n (if k % 2 = 0 then cd_aA m k + nI (cd_cnt m (k + 1)) else cd_aA m k + (-nI (cd_cnt m (k + 1)))) (nI (k + 1)) := hw () trivial
      refine pk_eq (k % 2) 0 (fun z => ?_) (fun z => ?_) (pk_andN (by omega) 1 (by decide)) rfl (by omega)
      · rw [if_pos z] at w1
        exact nm_e (nm_r (nI_1 k) w1)
      · rw [if_neg z] at w1
        exact nm_e (nm_r (nI_1 k) w1))))
end
section
/-! the finite tables, by the kernel: 32 pictures, 5 dimensions -/
theorem cd_T0 : ∀ m, m < 32 → ∀ k, k < 5 → cd_cnt m (k + 1) ≤ 10 := by decide +kernel
theorem cd_T1 : ∀ m, m < 32 → cd_cnt m 6 = 0 := by decide +kernel
theorem cd_T2 : ∀ m, m < 32 → ∀ k, k < 5 → cd_cnt m (k + 1) = cd_rk m k + cd_rk m (k + 1) + cd_hol m k := by decide +kernel
theorem cd_T3 : ∀ m, m < 32 → cd_aA m 5 = if m = 0 then 0 else 1 := by decide +kernel
theorem cd_T4 : ∀ m, m < 32 → m ≠ 0 → nI (cd_nA m 32) = ((1 : Int32) <<< (nI (cd_pt m) &&& 31)) - 1 := by decide +kernel
theorem cd_T5 : ∀ m, m < 32 → ∀ k, k < 5 → cd_cE (nI (cd_pt m)) (nI k) = nI (cd_cnt m (k + 1)) := by decide +kernel
theorem cd_h0 : ∀ j, j < 32 → cd_hd 0 j = false := by decide +kernel
end
section
/-! the law, from its end to its beginning -/
theorem cd_holes {post : Int32 → St2 → Prop} {m k : Nat} {fr fl ft : Int32} {a1 a2 a3 a4 : Nat → Int32} (hm : m < 32) (hH : cd_H m a1) (hk : k < 5) (h : ∀ fr fl ft b2 b3 b4, post (nI (cd_hol m k)) (fr, fl, ft, a1, b2, b3, b4)) : wpX_holes post (fr, fl, ft, a1, a2, a3, a4) (nI k) := by
  unfold wpX_holes
  have T := cd_T2 m hm k hk
  have T0 := cd_T0 m hm k hk
  have E : nI (cd_cnt m (k + 1)) - nI (cd_rk m k) - nI (cd_rk m (k + 1)) = nI (cd_hol m k) := by
    rw [pk_sub (by omega), pk_sub (by omega)]
    exact congrArg nI (by omega)
  refine cd_isDim hk (br_f (by decide) (cd_countOf hH (by omega) (cd_elim hH hk (fun fl ft b2 b3 b4 => nm_e ?_))))
  show wpX_eliminate _ _ (nI k + 1)
  rw [nI_1]
  by_cases e : k = 4
  · subst e
    have r5 : cd_rk m (4 + 1) = 0 := by
      unfold cd_rk
      rw [show cd_cnt m (4 + 1 + 1) = 0 from cd_T1 m hm]
      rfl
    rw [r5] at E
    refine cd_elim5 hH (fun fl ft b2 b3 b4 => ?_)
    show post (nI (cd_cnt m (4 + 1)) - nI (cd_rk m 4) - nI 0) _
    rw [E]
    exact h _ _ _ _ _ _
  · refine cd_elim hH (by omega) (fun fl ft b2 b3 b4 => ?_)
    show post (nI (cd_cnt m (k + 1)) - nI (cd_rk m k) - nI (cd_rk m (k + 1))) _
    rw [E]
    exact h _ _ _ _ _ _
theorem cd_count {post : Int32 → Prop} {m k : Nat} {fr fl ft : Int32} {a1 a2 a3 a4 : Nat → Int32} (hH : cd_H m a1) (hk : k < 5) (h : post (nI (cd_cnt m (k + 1)))) : wpX_count post (fr, fl, ft, a1, a2, a3, a4) (nI k) := by
  unfold wpX_count
  exact cd_isDim hk (br_f (by decide) (cd_countOf hH (by omega) h))
theorem cd_simplex {post : Int32 → Prop} {m k : Nat} {x2 fr fl ft : Int32} {a1 a2 a3 a4 : Nat → Int32} (hm : m < 32) (hH : cd_H m a1) (hk : k < 5) (h0 : (x2 < 0 ∨ nI (cd_cnt m (k + 1)) ≤ x2) → post (-1)) (h1 : ¬ x2 < 0 → ¬ nI (cd_cnt m (k + 1)) ≤ x2 → ∀ s, 1 ≤ s → s < 32 → post (nI s)) : wpX_simplex post (fr, fl, ft, a1, a2, a3, a4) (nI k) x2 := by
  unfold wpX_simplex
  refine cd_isDim hk (br_f (by decide) (br_c (fun z => h0 (Or.inl z)) (fun z => cd_countOf hH (by omega) (br_c (fun y => h0 (Or.inr y)) (fun y => ?_)))))
  obtain ⟨i, hi, rfl⟩ := nI_of z
  have hi2 : i < cd_cnt m (k + 1) := by
    rcases Nat.lt_or_ge i (cd_cnt m (k + 1)) with w | w
    · exact w
    · exact absurd (nI_le w hi) y
  refine cd_simplexAt hH (by omega) hi2 (fun s hs hin _ => h1 z y s ?_ hs)
  rcases Nat.eq_zero_or_pos s with w | w
  · rw [w, cd_in0] at hin
    exact absurd hin (by decide)
  · exact w
theorem cd_isChain {post : Int32 → Prop} {m k : Nat} {x3 fr fl ft : Int32} {a1 a2 a3 a4 : Nat → Int32} (hm : m < 32) (hH : cd_H m a1) (hk : k < 5) (h0 : (x3 < 0 ∨ nI (2 ^ cd_cnt m (k + 1)) ≤ x3) → post 0) (h1 : ¬ x3 < 0 → ¬ nI (2 ^ cd_cnt m (k + 1)) ≤ x3 → post 1) : wpX_isChain post (fr, fl, ft, a1, a2, a3, a4) (nI k) x3 := by
  unfold wpX_isChain
  have T0 := cd_T0 m hm k hk
  refine cd_isDim hk (br_f (by decide) (br_c (fun z => h0 (Or.inl z)) (fun z => cd_countOf hH (by omega) ?_)))
  show ((1 : Int32) <<< (nI (cd_cnt m (k + 1)) &&& 31) ≤ x3 → post 0) ∧ (¬ (1 : Int32) <<< (nI (cd_cnt m (k + 1)) &&& 31) ≤ x3 → post 1)
  rw [cd_one _ (by omega)]
  exact br_c (fun y => h0 (Or.inr y)) (fun y => h1 z y)
theorem cd_boundary {post : Int32 → Prop} {m k : Nat} {x3 fr fl ft : Int32} {a1 a2 a3 a4 : Nat → Int32} (hm : m < 32) (hH : cd_H m a1) (hk : k < 5) (h0 : (x3 < 0 ∨ nI (2 ^ cd_cnt m (k + 1)) ≤ x3) → post (-1)) (h1 : ¬ x3 < 0 → ¬ nI (2 ^ cd_cnt m (k + 1)) ≤ x3 → ∀ v, v < 2 ^ 31 → post (nI v)) : wpX_boundary post (fr, fl, ft, a1, a2, a3, a4) (nI k) x3 := by
  unfold wpX_boundary
  refine cd_isChain hm hH hk (fun z => br_t rfl (h0 z)) (fun z y => br_f (by decide) ?_)
  obtain ⟨c, hc, rfl⟩ := nI_of z
  have hc2 : c < 2 ^ cd_cnt m (k + 1) := by
    rcases Nat.lt_or_ge c (2 ^ cd_cnt m (k + 1)) with w | w
    · exact w
    · exact absurd (nI_le w hc) y
  refine cd_boundaryOf hH (by omega) hc (fun j hj hn => ?_) (h1 z y _ (cd_bd_lt _ _ _))
  rcases Nat.lt_or_ge j (cd_cnt m (k + 1)) with w | w
  · exact w
  · exact absurd (by rw [Nat.div_eq_of_lt (Nat.lt_of_lt_of_le hc2 (Nat.pow_le_pow_right (by decide) w))]) hn
theorem cd_L360 {post : Int32 → St0 → Prop} {mc ms kc ks : Nat} {x4 x10 z0 fr fl ft : Int32} {a1 a2 a3 a4 : Nat → Int32} (hp : post 1 ()) (hz : ¬ z0 = x10) : wL_lawOf_360 post mc ms x4 x10 z0 kc ks fr fl ft a1 a2 a3 a4 := by
  unfold wL_lawOf_360
  refine br_f hz (cd_remove (fun z => ?_) (fun z y r b1 hr => ?_))
  · have t : wL_lawOf_387 post mc ms (-1) kc ks := br_f (by decide) hp
    exact br_c (fun _ => t) (fun g => br_c (fun g2 => absurd z (fun w => w.elim g (fun w => w g2))) (fun _ => t))
  · exact br_f z (br_t y (br_f (nI_pos (by omega)) hp))
theorem cd_nm1 {v : Nat} (hv : v < 2 ^ 31) : ¬ nI v = -1 := by
  intro e
  have h := nI_pos hv
  rw [e] at h
  exact h (by decide)
theorem cd_L342t {post : Int32 → St0 → Prop} {mc ms kc ks m k : Nat} {x3 x4 fr fl ft : Int32} {a1 a2 a3 a4 : Nat → Int32} (hp : post 1 ()) (hm : m < 32) (hH : cd_H m a1) (hk : k < 5) (h0 : ¬ x3 < 0) (h1 : ¬ nI (2 ^ cd_cnt m (k + 1)) ≤ x3) : wL_lawOf_342 post mc ms (nI k) x3 x4 1 kc ks fr fl ft a1 a2 a3 a4 := by
  unfold wL_lawOf_342
  exact cd_boundary hm hH hk (fun z => absurd z (fun w => w.elim h0 h1)) (fun _ _ v hv => br_f (cd_nm1 hv) (cd_L360 hp (by decide)))
theorem cd_L342f {post : Int32 → St0 → Prop} {mc ms kc ks m k : Nat} {x3 x4 fr fl ft : Int32} {a1 a2 a3 a4 : Nat → Int32} (hp : post 1 ()) (hm : m < 32) (hH : cd_H m a1) (hk : k < 5) (h : x3 < 0 ∨ nI (2 ^ cd_cnt m (k + 1)) ≤ x3) : wL_lawOf_342 post mc ms (nI k) x3 x4 0 kc ks fr fl ft a1 a2 a3 a4 := by
  unfold wL_lawOf_342
  exact cd_boundary hm hH hk (fun _ => br_t rfl (cd_L360 hp (by decide))) (fun z y => absurd h (fun w => w.elim z y))
theorem cd_L342n {post : Int32 → St0 → Prop} {mc ms kc ks : Nat} {x1 x3 x4 fr fl ft : Int32} {a1 a2 a3 a4 : Nat → Int32} (hp : post 1 ()) (hx : x1 < 0 ∨ 4 < x1) : wL_lawOf_342 post mc ms x1 x3 x4 0 kc ks fr fl ft a1 a2 a3 a4 := by
  unfold wL_lawOf_342 wpX_boundary wpX_isChain
  exact cd_noDim hx (br_t rfl (br_t rfl (br_t rfl (cd_L360 hp (by decide)))))
theorem cd_L315 {post : Int32 → St0 → Prop} {mc ms kc ks m k : Nat} {x3 x4 z0 z1 fr fl ft : Int32} {a1 a2 a3 a4 : Nat → Int32} (hp : post 1 ()) (hm : m < 32) (hH : cd_H m a1) (hk : k < 5) (hz : z1 = z0) : wL_lawOf_315 post mc ms (nI k) x3 x4 1 (nI (cd_cnt m (k + 1))) z0 z1 kc ks fr fl ft a1 a2 a3 a4 := by
  unfold wL_lawOf_315
  have T0 := cd_T0 m hm k hk
  rw [cd_one _ (by omega)]
  exact br_t hz (br_f (by decide) (br_c (fun z => cd_L342f hp hm hH hk (Or.inl z)) (fun z => br_c (fun y => cd_L342f hp hm hH hk (Or.inr y)) (fun y => cd_L342t hp hm hH hk z y))))
theorem cd_L295 {post : Int32 → St0 → Prop} {mc ms kc ks m k : Nat} {x2 x3 x4 z0 fr fl ft : Int32} {a1 a2 a3 a4 : Nat → Int32} (hp : post 1 ()) (hm : m < 32) (hH : cd_H m a1) (hk : k < 5) (h0 : (x2 < 0 ∨ nI (cd_cnt m (k + 1)) ≤ x2) → z0 = 0) (h1 : ¬ x2 < 0 → ¬ nI (cd_cnt m (k + 1)) ≤ x2 → z0 = 1) : wL_lawOf_295 post mc ms (nI k) x2 x3 x4 1 (nI (cd_cnt m (k + 1))) z0 kc ks fr fl ft a1 a2 a3 a4 := by
  unfold wL_lawOf_295
  exact br_f (by decide) (br_c (fun z => cd_L315 hp hm hH hk (h0 (Or.inl z))) (fun z => br_c (fun y => cd_L315 hp hm hH hk (h0 (Or.inr y))) (fun y => cd_L315 hp hm hH hk (h1 z y))))
theorem cd_L257 {post : Int32 → St0 → Prop} {mc ms kc ks m k : Nat} {x2 x3 x4 fr fl ft : Int32} {a1 a2 a3 a4 : Nat → Int32} (hp : post 1 ()) (hm : m < 32) (hH : cd_H m a1) (hk : k < 5) : wL_lawOf_257 post mc ms (nI k) x2 x3 x4 1 (nI (cd_cnt m (k + 1))) kc ks fr fl ft a1 a2 a3 a4 := by
  unfold wL_lawOf_257
  refine cd_count hH hk (br_f (by decide) ?_)
  unfold wL_lawOf_276
  exact br_t rfl (cd_simplex hm hH hk (fun z => br_t (by decide) (cd_L295 hp hm hH hk (fun _ => rfl) (fun w y => absurd z (fun v => v.elim w y)))) (fun z y s hs hs2 => br_f (nI_nlt (b := 1) hs (by omega)) (cd_L295 hp hm hH hk (fun w => absurd w (fun v => v.elim z y)) (fun _ _ => rfl))))
theorem cd_L257n {post : Int32 → St0 → Prop} {mc ms kc ks : Nat} {x1 x2 x3 x4 z fr fl ft : Int32} {a1 a2 a3 a4 : Nat → Int32} (hp : post 1 ()) (hx : x1 < 0 ∨ 4 < x1) : wL_lawOf_257 post mc ms x1 x2 x3 x4 0 z kc ks fr fl ft a1 a2 a3 a4 := by
  unfold wL_lawOf_257 wpX_count
  refine cd_noDim hx (br_t rfl (br_t rfl ?_))
  unfold wL_lawOf_276 wpX_simplex
  refine br_t rfl (cd_noDim hx (br_t rfl (br_t (by decide) ?_)))
  unfold wL_lawOf_295 wL_lawOf_314 wL_lawOf_315
  exact br_t rfl (br_t rfl (br_t rfl (cd_L342n hp hx)))
theorem cd_L154 {post : Int32 → St0 → Prop} {mc ms kc ks : Nat} {x1 x2 x3 x4 x7 x8 z0 z1 fr fl ft : Int32} {a1 a2 a3 a4 : Nat → Int32} (hz : z1 = z0) (H : wL_lawOf_257 post mc ms x1 x2 x3 x4 x8 (cd_cE x7 x1) kc ks fr fl ft a1 a2 a3 a4) : wL_lawOf_154 post mc ms x1 x2 x3 x4 x7 x8 z0 z1 kc ks fr fl ft a1 a2 a3 a4 := by
  unfold wL_lawOf_154
  unfold cd_cE at H
  refine br_t hz (br_c (fun h => ?_) (fun h => br_c (fun h1 => ?_) (fun h1 => br_c (fun h2 => ⟨by decide, ?_⟩) (fun h2 => br_c (fun h3 => ⟨by decide, ?_⟩) (fun h3 => br_c (fun h4 => br_c (fun h5 => ?_) (fun h5 => br_c (fun h6 => ?_) (fun h6 => ?_))) (fun h4 => br_c (fun h5 => ?_) (fun h5 => ?_)))))))
  · rw [if_pos h] at H; exact H
  · rw [if_neg h, if_pos h1] at H; exact H
  · rw [if_neg h, if_neg h1, if_pos h2] at H; exact H
  · rw [if_neg h, if_neg h1, if_neg h2, if_pos h3] at H; exact H
  · rw [if_neg h, if_neg h1, if_neg h2, if_neg h3, if_pos h4, if_pos h5] at H; exact H
  · rw [if_neg h, if_neg h1, if_neg h2, if_neg h3, if_pos h4, if_neg h5, if_pos h6] at H; exact H
  · rw [if_neg h, if_neg h1, if_neg h2, if_neg h3, if_pos h4, if_neg h5, if_neg h6] at H; exact H
  · rw [if_neg h, if_neg h1, if_neg h2, if_neg h3, if_neg h4, if_pos h5] at H; exact H
  · rw [if_neg h, if_neg h1, if_neg h2, if_neg h3, if_neg h4, if_neg h5] at H; exact H
theorem cd_L123 {post : Int32 → St0 → Prop} {mc ms kc ks m k : Nat} {x2 x3 x4 x6 fr fl ft : Int32} {a1 a2 a3 a4 : Nat → Int32} (hp : post 1 ()) (hm : m < 32) (hH : cd_H m a1) (hk : k < 5) (h6 : x6 = if m = 0 then 0 else 1) : wL_lawOf_123 post mc ms (nI k) x2 x3 x4 x6 (nI (cd_pt m)) 1 kc ks fr fl ft a1 a2 a3 a4 := by
  unfold wL_lawOf_123
  refine cd_holes hm hH hk (fun fr fl ft b2 b3 b4 => br_f (by decide) ?_)
  have W : ∀ z0 z1 : Int32, z1 = z0 → wL_lawOf_154 post mc ms (nI k) x2 x3 x4 (nI (cd_pt m)) 1 z0 z1 kc ks fr fl ft a1 b2 b3 b4 := fun z0 z1 e => cd_L154 e (by
    rw [cd_T5 m hm k hk]
    exact cd_L257 hp hm hH hk)
  by_cases e : m = 0
  · rw [if_pos e] at h6
    have eh : cd_hol m k = 0 := if_neg (fun z => z.2 e)
    rw [eh]
    exact br_c (fun _ => br_t h6 (W _ _ rfl)) (fun _ => W _ _ rfl)
  · rw [if_neg e] at h6
    refine pk_eq k 0 (fun z => br_f (by rw [h6]; decide) (W _ _ ?_)) (fun z => W _ _ ?_)
    · rw [show cd_hol m k = 1 from if_pos ⟨z, e⟩]
      rfl
    · rw [show cd_hol m k = 0 from if_neg (fun y => z y.1)]
      rfl
theorem cd_L123n {post : Int32 → St0 → Prop} {mc ms kc ks : Nat} {x1 x2 x3 x4 x6 x7 fr fl ft : Int32} {a1 a2 a3 a4 : Nat → Int32} (hp : post 1 ()) (hx : x1 < 0 ∨ 4 < x1) : wL_lawOf_123 post mc ms x1 x2 x3 x4 x6 x7 0 kc ks fr fl ft a1 a2 a3 a4 := by
  unfold wL_lawOf_123 wpX_holes
  exact cd_noDim hx (br_t rfl (br_t rfl (cd_L154 rfl (cd_L257n hp hx))))
theorem cd_L86 {post : Int32 → St0 → Prop} {mc ms kc ks m : Nat} {x1 x2 x3 x4 x6 z0 z1 fr fl ft : Int32} {a1 a2 a3 a4 : Nat → Int32} (hp : post 1 ()) (hm : m < 32) (hH : cd_H m a1) (h6 : x6 = if m = 0 then 0 else 1) (hz : z1 = z0) : wL_lawOf_86 post mc ms x1 x2 x3 x4 x6 (nI (cd_pt m)) z0 z1 kc ks fr fl ft a1 a2 a3 a4 := by
  unfold wL_lawOf_86
  refine br_t hz (cd_alt hH ?_)
  have W : ∀ z0 z1 : Int32, z1 = z0 → wL_lawOf_104 post mc ms x1 x2 x3 x4 x6 (nI (cd_pt m)) z0 z1 kc ks fr fl ft a1 a2 a3 a4 := fun z0 z1 e => by
    unfold wL_lawOf_104
    refine br_t e (br_c (fun z => cd_L123n hp (Or.inl z)) (fun z => br_c (fun y => cd_L123n hp (Or.inr y)) (fun y => ?_)))
    obtain ⟨k, hk, rfl⟩ := nI_of2 (M := 4) (n := 4) (by decide) z (Int32.not_lt.mp y)
    exact cd_L123 hp hm hH (by omega) h6
  rw [cd_T3 m hm]
  by_cases e : m = 0
  · rw [if_pos e] at h6 ⊢
    exact br_t h6 (W _ _ rfl)
  · rw [if_neg e] at h6 ⊢
    exact br_f (by rw [h6]; decide) (W _ _ rfl)
theorem cd_L33t {post : Int32 → St0 → Prop} {mc ms kc ks m : Nat} {x1 x2 x3 x4 fr fl ft : Int32} {a1 a2 a3 a4 : Nat → Int32} (hp : post 1 ()) (hm : m < 32) (h1 : 1 ≤ m) (hz : ∀ j, a1 j = 0) : ∃ n, wL_lawOf_33 post mc ms (nI m) x1 x2 x3 x4 1 kc ks fr fl ft a1 a2 a3 a4 n 0 0 :=
  pk_loop (σ := Unit) (fun n i _ => wL_lawOf_33 post mc ms (nI m) x1 x2 x3 x4 1 kc ks fr fl ft a1 a2 a3 a4 n (nI (cd_pA m i)) (nI i)) (fun _ _ => True) 5 0 () (by omega) trivial
    (fun n _ _ => pk_le 5 5 (fun _ => cd_add hm h1 hz (fun b1 hH => br_f (by decide) (cd_L86 hp hm hH (by rw [if_neg (by omega)]) (cd_T4 m hm (by omega))))) (fun z => absurd z (by omega)))
    (fun n i _ hi _ hw => pk_le 5 i (fun z => absurd z (by omega)) (fun _ => br_f (by decide) (nm_r (by rw [cd_bitS (by omega) (by omega), nI_add]; rfl) (nm_r (nI_1 i) (hw () trivial)))))
theorem cd_L33f {post : Int32 → St0 → Prop} {mc ms kc ks : Nat} {x0 x1 x2 x3 x4 fr fl ft : Int32} {a1 a2 a3 a4 : Nat → Int32} (hp : post 1 ()) (hx : x0 < 1 ∨ 31 < x0) (hz : ∀ j, a1 j = 0) : ∃ n, wL_lawOf_33 post mc ms x0 x1 x2 x3 x4 0 kc ks fr fl ft a1 a2 a3 a4 n 0 0 := by
  have hH : cd_H 0 a1 := fun j hj => by
    rw [hz j, cd_h0 j hj]
    rfl
  have W : ∀ f1 : Int32, f1 = -1 → wL_lawOf_86 post mc ms x1 x2 x3 x4 0 (nI (cd_pt 0)) (-1) f1 kc ks fr fl ft a1 a2 a3 a4 := fun f1 e => cd_L86 hp (by decide) hH rfl e
  refine pk_loop (σ := Unit) (fun n i _ => wL_lawOf_33 post mc ms x0 x1 x2 x3 x4 0 kc ks fr fl ft a1 a2 a3 a4 n (nI 0) (nI i)) (fun _ _ => True) 5 0 () (by omega) trivial
    (fun n _ _ => pk_le 5 5 (fun _ => ?_) (fun z => absurd z (by omega)))
    (fun n i _ hi _ hw => pk_le 5 i (fun z => absurd z (by omega)) (fun _ => br_t rfl (nm_r (cd_a0 _) (nm_r (nI_1 i) (hw () trivial)))))
  unfold wpX_add
  refine br_c (fun _ => br_t rfl (W _ rfl)) (fun y => br_f ?_ (br_t rfl (W _ rfl)))
  rcases hx with w | w
  · exact absurd w y
  · exact Int32.not_le.mpr w
theorem cd_lawOf {post : Int32 → St0 → Prop} {p0 p1 p2 p3 p4 : Int32} (hp : post 1 ()) : wpL_lawOf post 32 512 () p0 p1 p2 p3 p4 := by
  unfold wpL_lawOf
  refine ⟨by omega, by omega, 4, 62, by omega, by omega, ?_⟩
  unfold wpX_init
  refine ⟨by omega, by omega, by omega, by omega, by omega, by omega, by omega, by omega, ?_⟩
  refine br_c (fun z => cd_L33f hp (Or.inl z) (fun _ => rfl)) (fun z => br_c (fun y => cd_L33f hp (Or.inr y) (fun _ => rfl)) (fun y => ?_))
  have z0 : ¬ p0 < 0 := fun w => z (Int32.lt_trans w (by decide))
  obtain ⟨m, hm, rfl⟩ := nI_of2 (M := 31) (n := 31) (by decide) z0 (Int32.not_lt.mp y)
  have h1 : 1 ≤ m := by
    rcases Nat.eq_zero_or_pos m with w | w
    · subst w
      exact absurd (by decide) z
    · exact w
  exact cd_L33t hp (by omega) h1 (fun _ => rfl)
theorem cd_cell {post : Int32 → Prop} {L i : Nat} {xs : Nat → Int32} (hL : L ≤ 5) (hi : i < 5) (h : ∀ x, post x) : wpL_cellAt post L xs () (nI i) :=
  pk_le L i (fun _ => h _) (fun z => ⟨pk_in i L z, h _⟩)
theorem i_vc (xs : Nat → Int32) (L : Nat) (hL : L ≤ 5) : wpL_law (fun r => r = 1) L xs := by
  unfold wpL_law
  exact cd_cell (i := 0) hL (by omega) (fun _ => cd_cell (i := 1) hL (by omega) (fun _ => cd_cell (i := 2) hL (by omega) (fun _ => cd_cell (i := 3) hL (by omega) (fun _ => cd_cell (i := 4) hL (by omega) (fun _ => ⟨32, 512, by omega, by omega, cd_lawOf rfl⟩)))))
end
