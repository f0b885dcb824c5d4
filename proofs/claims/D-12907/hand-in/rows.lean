section
/-! bits of an Int32 (began as the family 'Int32 by its bits' of kit/laws/BITS.to-paste, renamed) -/
def sg_bt (x : Int32) (i : Nat) : Bool := x.toBitVec.getLsbD i
theorem sg_b_ext {x y : Int32} (h : ∀ i, i < 32 → sg_bt x i = sg_bt y i) : x = y := Int32.toBitVec_inj.mp (BitVec.eq_of_getLsbD_eq (fun i hi => h i hi))
theorem sg_b_or (x y : Int32) (i : Nat) : sg_bt (x ||| y) i = (sg_bt x i || sg_bt y i) := by unfold sg_bt; rw [Int32.toBitVec_or, BitVec.getLsbD_or]
theorem sg_b_and (x y : Int32) (i : Nat) : sg_bt (x &&& y) i = (sg_bt x i && sg_bt y i) := by unfold sg_bt; rw [Int32.toBitVec_and, BitVec.getLsbD_and]
theorem sg_b_xor (x y : Int32) (i : Nat) : sg_bt (x ^^^ y) i = (sg_bt x i ^^ sg_bt y i) := by unfold sg_bt; rw [Int32.toBitVec_xor, BitVec.getLsbD_xor]
theorem sg_b_m1 : ∀ i, i < 32 → sg_bt (-1) i = true := by decide +kernel
theorem sg_b_0 (i : Nat) : sg_bt 0 i = false := BitVec.getLsbD_zero
theorem sg_s_l : ∀ n, n < 32 → ((nI n &&& 31).toBitVec.smod 32).toNat = n := by decide +kernel
theorem sg_b_sshr (n : Nat) (hn : n < 32) (x : Int32) {i : Nat} (hi : i < 32) : sg_bt (x >>> (nI n &&& 31)) i = if n + i < 32 then sg_bt x (n + i) else sg_bt x 31 := by
  unfold sg_bt
  rw [Int32.toBitVec_shiftRight]
  show (x.toBitVec.sshiftRight ((nI n &&& 31).toBitVec.smod 32).toNat).getLsbD i = _
  rw [sg_s_l n hn, BitVec.getLsbD_sshiftRight, BitVec.msb_eq_getLsbD_last]
  simp [hi]
theorem sg_b_1 : ∀ k, k < 32 → sg_bt 1 k = decide (k = 0) := by decide +kernel
theorem sg_b_one : ∀ n, n < 32 → ∀ k, k < 32 → sg_bt ((1 : Int32) <<< (nI n &&& 31)) k = decide (k = n) := by decide +kernel
theorem sg_b_mask : ∀ n, n < 25 → ∀ k, k < 32 → sg_bt (((1 : Int32) <<< (nI n &&& 31)) - 1) k = decide (k < n) := by decide +kernel
/-- one bit, as the code asks it -/
theorem sg_bz {f : Int32} {i : Nat} (hi : i < 32) : ((f >>> (nI i &&& 31)) &&& 1) = 0 ↔ sg_bt f i = false := by
  constructor
  · intro h
    have h0 : sg_bt ((f >>> (nI i &&& 31)) &&& 1) 0 = sg_bt 0 0 := by rw [h]
    rw [sg_b_and, sg_b_sshr i hi f (by omega), sg_b_1 0 (by omega), sg_b_0, if_pos (by omega)] at h0
    simpa using h0
  · intro h
    apply sg_b_ext
    intro k hk
    rw [sg_b_and, sg_b_sshr i hi f hk, sg_b_1 k hk, sg_b_0]
    by_cases e : k = 0
    · subst e
      simp [hi, h]
    · simp [e]
theorem sg_bnz {f : Int32} {i : Nat} (hi : i < 32) : ¬ ((f >>> (nI i &&& 31)) &&& 1) = 0 ↔ sg_bt f i = true := by
  rw [sg_bz hi]
  simp
theorem sg_b_set {f : Int32} {i k : Nat} (hi : i < 32) (hk : k < 32) : sg_bt (f ||| ((1 : Int32) <<< (nI i &&& 31))) k = (sg_bt f k || decide (k = i)) := by
  rw [sg_b_or, sg_b_one i hi k hk]
theorem sg_b_clr {f : Int32} {i k : Nat} (hi : i < 32) (hk : k < 32) : sg_bt (f &&& (((1 : Int32) <<< (nI i &&& 31)) ^^^ (-1))) k = (sg_bt f k && !decide (k = i)) := by
  rw [sg_b_and, sg_b_xor, sg_b_one i hi k hk, sg_b_m1 k hk]
  simp
theorem sg_b_and0 {f : Int32} {i : Nat} (hi : i < 32) : (f &&& ((1 : Int32) <<< (nI i &&& 31))) = 0 ↔ sg_bt f i = false := by
  constructor
  · intro h
    have h0 : sg_bt (f &&& ((1 : Int32) <<< (nI i &&& 31))) i = sg_bt 0 i := by rw [h]
    rw [sg_b_and, sg_b_one i hi i hi, sg_b_0] at h0
    simpa using h0
  · intro h
    apply sg_b_ext
    intro k hk
    rw [sg_b_and, sg_b_one i hi k hk, sg_b_0]
    by_cases e : k = i
    · subst e
      simp [h]
    · simp [e]
theorem sg_b_eq0 {f : Int32} (h : f = 0) (i : Nat) : sg_bt f i = false := by rw [h, sg_b_0]
/-- a mask in a mask, by its number -/
theorem sg_sub_le {x y : Int32} (h : ∀ k, k < 32 → sg_bt x k = true → sg_bt y k = true) : x.toBitVec.toNat ≤ y.toBitVec.toNat := by
  have e : x ||| y = y := by
    apply sg_b_ext
    intro k hk
    rw [sg_b_or]
    cases hx : sg_bt x k
    · simp
    · simp [h k hk hx]
  have e2 : (x ||| y).toBitVec.toNat = y.toBitVec.toNat := by rw [e]
  rw [Int32.toBitVec_or, BitVec.toNat_or] at e2
  rw [← e2]
  exact Nat.left_le_or
theorem sg_sub_lt {x y : Int32} (h : ∀ k, k < 32 → sg_bt x k = true → sg_bt y k = true) (hn : ¬ x = y) : x.toBitVec.toNat < y.toBitVec.toNat := by
  have h1 := sg_sub_le h
  rcases Nat.lt_or_ge x.toBitVec.toNat y.toBitVec.toNat with z | z
  · exact z
  · exact absurd (Int32.toBitVec_inj.mp (BitVec.eq_of_toNat_eq (by omega))) hn
/-! small numbers -/
theorem sg_nlt0 {j : Nat} (h : j < 2 ^ 31) : ¬ nI j < 0 := nI_pos h
theorem sg_nm1 {j : Nat} (h : j < 2 ^ 31) : ¬ nI j = -1 := by
  intro e
  have := nI_pos h
  rw [e] at this
  exact this (by decide)
theorem sg_inj {a b : Nat} (ha : a < 2 ^ 31) (hb : b < 2 ^ 31) (h : nI a = nI b) : a = b := (nI_eq ha hb).mp h
end
section
/-! the picture of a graph, and what a state shows of it -/
def sg_cb (k : Int32) : Bool := decide (k = 4) || decide (k = 6) || decide (k = 13) || decide (k = 14)
/-- m is a part of a node of kind k with operands x y z -/
def sg_part (k x y z : Int32) (m : Nat) : Prop := m < 24 ∧ ¬ k = 0 ∧ ¬ k = 11 ∧ ((¬ k = 10 ∧ x = nI m) ∨ ((k = 10 ∨ k = 3 ∨ k = 6 ∨ k = 13) ∧ y = nI m) ∨ ((k = 10 ∨ k = 13) ∧ z = nI m))
/-- the operands of node i of n nodes -/
def sg_ok (n : Nat) (K : Nat → Int32) (i : Nat) (k x y z : Int32) : Prop :=
  (k = 4 → x = -1 ∨ ∃ m, m < n ∧ x = nI m) ∧
  (¬ k = 0 → ¬ k = 4 → ∃ m, m < i ∧ x = nI m ∧ ((k = 6 ∨ k = 13 ∨ k = 14 ∨ k = 10) → sg_cb (K m) = true)) ∧
  ((k = 3 ∨ k = 5 ∨ k = 6 ∨ k = 7 ∨ k = 10 ∨ k = 13) → ∃ m, m < i ∧ y = nI m ∧ ((k = 5 ∨ k = 6 ∨ k = 7 ∨ k = 13) → sg_cb (K m) = true)) ∧
  ((k = 10 ∨ k = 13) → ∃ m, m < i ∧ z = nI m ∧ (k = 13 → sg_cb (K m) = true))
def sg_comb (k x y z : Int32) (f : Nat → Int32) : Int32 :=
  if k = 14 then f x.toNatClampNeg * y + z else if k = 6 then f x.toNatClampNeg + f y.toNatClampNeg else if f x.toNatClampNeg = 0 then f z.toNatClampNeg else f y.toNatClampNeg
abbrev sg_G : Type := Nat × (Nat → Int32) × (Nat → Int32) × (Nat → Int32) × (Nat → Int32) × (Nat → Int32) × (Nat → Int32) × (Nat → Int32) × (Nat → Bool) × (Nat → Bool) × (Nat → Bool) × Int32
def sg_wf (n : Nat) (K X Y Z V : Nat → Int32) : Prop :=
  n ≤ 24 ∧ (∀ i, i < n → sg_ok n K i (K i) (X i) (Y i) (Z i)) ∧
  (∃ (rk : Nat → Nat) (B : Nat), ∀ i, i < n → rk i < B ∧ ∀ m, sg_part (K i) (X i) (Y i) (Z i) m → rk m < rk i) ∧
  (∀ i, i < n → (K i = 6 ∨ K i = 13 ∨ K i = 14) → V i = sg_comb (K i) (X i) (Y i) (Z i) V)
def sg_WF (g : sg_G) : Prop := match g with
  | (n, K, X, Y, Z, V, _, _, _, _, _, _) => sg_wf n K X Y Z V
def sg_arr (n : Nat) (K X Y Z a5 a6 : Nat → Int32) : Prop :=
  ∃ ht : Nat → Nat, (∀ i, i < n → a5 i = nI (ht i) ∧ ht i < 24 ∧ ∀ m, sg_part (K i) (X i) (Y i) (Z i) m → ht m < ht i) ∧
    (∀ m, m < n → ∀ i, i < n → (sg_bt (a6 m) i = true ↔ sg_part (K i) (X i) (Y i) (Z i) m))
def sg_Rep (g : sg_G) (u : St1) : Prop := match g, u with
  | (n, K, X, Y, Z, V, Q, T, H, P, O, c), (nc, ar, hv, ch, kt, ov, tc, lv, wt, a1, a2, a3, a4, a5, a6, a7, a8, a9, a10) =>
    nc = nI n ∧ tc = c ∧
    (∀ i, i < n → a1 i = K i ∧ a2 i = X i ∧ a3 i = Y i ∧ a4 i = Z i ∧ a7 i = V i ∧ a9 i = Q i ∧ a10 i = T i ∧ sg_bt hv i = H i ∧ sg_bt kt i = P i ∧ sg_bt ov i = O i) ∧
    (¬ ar = 0 → sg_arr n K X Y Z a5 a6)
/-- a question: every state that shows g answers r -/
def sg_Q (g : sg_G) (W : (Int32 → Prop) → St1 → Prop) (r : Int32) : Prop := ∀ u, sg_Rep g u → ∀ post : Int32 → Prop, post r → W post u
/-- an act: every state that shows g answers r and shows h -/
def sg_A (g : sg_G) (W : (Int32 → St1 → Prop) → St1 → Prop) (r : Int32) (h : sg_G) : Prop := ∀ u, sg_Rep g u → ∀ post : Int32 → St1 → Prop, (∀ v, sg_Rep h v → post r v) → W post u
/-! small methods -/
theorem sg_cellKind {u : St1} {post : Int32 → Prop} {k : Int32} (h : post (if sg_cb k = true then 1 else 0)) : wpX_isCellKind post u k := by
  obtain ⟨nc, ar, hv, ch, kt, ov, tc, lv, wt, a1, a2, a3, a4, a5, a6, a7, a8, a9, a10⟩ := u
  unfold wpX_isCellKind
  dsimp only
  unfold sg_cb at h
  refine br_c (fun e => ?_) (fun e1 => br_c (fun e => ?_) (fun e2 => br_c (fun e => ?_) (fun e3 => br_c (fun e => ?_) (fun e4 => ?_))))
  all_goals simp_all
theorem sg_isNode_t {nc ar hv ch kt ov tc lv wt : Int32} {a1 a2 a3 a4 a5 a6 a7 a8 a9 a10 : Nat → Int32} {post : Int32 → Prop} {n j : Nat} (hn : nc = nI n) (h24 : n ≤ 24) (hj : j < n) (h : post 1) : wpX_isNode post (nc, ar, hv, ch, kt, ov, tc, lv, wt, a1, a2, a3, a4, a5, a6, a7, a8, a9, a10) (nI j) :=
  br_f (nI_pos (by omega)) (br_f (by rw [hn]; exact nI_ge hj (by omega)) h)
theorem sg_isNode_f {nc ar hv ch kt ov tc lv wt : Int32} {a1 a2 a3 a4 a5 a6 a7 a8 a9 a10 : Nat → Int32} {post : Int32 → Prop} {n : Nat} {p : Int32} (hn : nc = nI n) (hp : p < 0 ∨ nI n ≤ p) (h : post 0) : wpX_isNode post (nc, ar, hv, ch, kt, ov, tc, lv, wt, a1, a2, a3, a4, a5, a6, a7, a8, a9, a10) p := by
  by_cases h0 : p < 0
  · exact br_t h0 h
  · rcases hp with z | z
    · exact absurd z h0
    · exact br_f h0 (br_t (by rw [hn]; exact z) h)
theorem sg_has {nc ar hv ch kt ov tc lv wt : Int32} {a1 a2 a3 a4 a5 a6 a7 a8 a9 a10 : Nat → Int32} {post : Int32 → Prop} {j : Nat} (hj : j < 24) (h : post (if sg_bt hv j = true then 1 else 0)) : wpX_has post (nc, ar, hv, ch, kt, ov, tc, lv, wt, a1, a2, a3, a4, a5, a6, a7, a8, a9, a10) (nI j) := by
  unfold wpX_has
  dsimp only
  refine br_c (fun e => ?_) (fun e => ?_)
  · rw [sg_bz (by omega)] at e
    rw [e] at h
    exact h
  · rw [sg_bnz (by omega)] at e
    rw [if_pos e] at h
    exact h
theorem sg_isEvent_j {nc ar hv ch kt ov tc lv wt : Int32} {a1 a2 a3 a4 a5 a6 a7 a8 a9 a10 : Nat → Int32} {post : Int32 → Prop} {n j : Nat} (hn : nc = nI n) (h24 : n ≤ 24) (hj : j < n) (h : post (if sg_cb (a1 j) = true then 0 else 1)) : wpX_isEvent post (nc, ar, hv, ch, kt, ov, tc, lv, wt, a1, a2, a3, a4, a5, a6, a7, a8, a9, a10) (nI j) := by
  unfold wpX_isEvent
  dsimp only
  refine sg_isNode_t hn h24 hj (br_f (by decide) ⟨vp_in_nI (by omega) (by omega), ?_⟩)
  rw [nI_clamp (by omega)]
  refine sg_cellKind ?_
  cases hc : sg_cb (a1 j)
  · rw [hc] at h
    exact br_t rfl h
  · rw [hc] at h
    exact br_f (by decide) h
theorem sg_isEvent_f {nc ar hv ch kt ov tc lv wt : Int32} {a1 a2 a3 a4 a5 a6 a7 a8 a9 a10 : Nat → Int32} {post : Int32 → Prop} {n : Nat} {p : Int32} (hn : nc = nI n) (hp : p < 0 ∨ nI n ≤ p) (h : post 0) : wpX_isEvent post (nc, ar, hv, ch, kt, ov, tc, lv, wt, a1, a2, a3, a4, a5, a6, a7, a8, a9, a10) p := by
  unfold wpX_isEvent
  dsimp only
  exact sg_isNode_f hn hp (br_t rfl h)
theorem sg_isCell_j {nc ar hv ch kt ov tc lv wt : Int32} {a1 a2 a3 a4 a5 a6 a7 a8 a9 a10 : Nat → Int32} {post : Int32 → Prop} {n j : Nat} (hn : nc = nI n) (h24 : n ≤ 24) (hj : j < n) (h : post (if sg_cb (a1 j) = true then 1 else 0)) : wpX_isCell post (nc, ar, hv, ch, kt, ov, tc, lv, wt, a1, a2, a3, a4, a5, a6, a7, a8, a9, a10) (nI j) := by
  unfold wpX_isCell
  dsimp only
  refine sg_isNode_t hn h24 hj (br_f (by decide) ⟨vp_in_nI (by omega) (by omega), ?_⟩)
  rw [nI_clamp (by omega)]
  refine sg_cellKind ?_
  cases hc : sg_cb (a1 j)
  · rw [hc] at h
    exact br_t rfl h
  · rw [hc] at h
    exact br_f (by decide) h
theorem sg_isCell_f {nc ar hv ch kt ov tc lv wt : Int32} {a1 a2 a3 a4 a5 a6 a7 a8 a9 a10 : Nat → Int32} {post : Int32 → Prop} {n : Nat} {p : Int32} (hn : nc = nI n) (hp : p < 0 ∨ nI n ≤ p) (h : post 0) : wpX_isCell post (nc, ar, hv, ch, kt, ov, tc, lv, wt, a1, a2, a3, a4, a5, a6, a7, a8, a9, a10) p := by
  unfold wpX_isCell
  dsimp only
  exact sg_isNode_f hn hp (br_t rfl h)
theorem sg_value_j {nc ar hv ch kt ov tc lv wt : Int32} {a1 a2 a3 a4 a5 a6 a7 a8 a9 a10 : Nat → Int32} {post : Int32 → Prop} {n j : Nat} (hn : nc = nI n) (h24 : n ≤ 24) (hj : j < n) (h : post (if sg_cb (a1 j) = true then a7 j else if sg_bt hv j = true then a7 j else 0)) : wpX_value post (nc, ar, hv, ch, kt, ov, tc, lv, wt, a1, a2, a3, a4, a5, a6, a7, a8, a9, a10) (nI j) := by
  unfold wpX_value
  dsimp only
  rw [nI_clamp (by omega)]
  refine sg_isNode_t hn h24 hj (br_f (by decide) (sg_isEvent_j hn h24 hj ?_))
  cases hc : sg_cb (a1 j)
  · rw [hc] at h
    refine br_f (by decide) (sg_has (by omega) ?_)
    cases hb : sg_bt hv j
    · rw [hb] at h
      exact br_t rfl h
    · rw [hb] at h
      exact br_f (by decide) ⟨vp_in_nI (by omega) (by omega), h⟩
  · rw [hc] at h
    exact br_t rfl ⟨vp_in_nI (by omega) (by omega), h⟩
theorem sg_value_f {nc ar hv ch kt ov tc lv wt : Int32} {a1 a2 a3 a4 a5 a6 a7 a8 a9 a10 : Nat → Int32} {post : Int32 → Prop} {n : Nat} {p : Int32} (hn : nc = nI n) (hp : p < 0 ∨ nI n ≤ p) (h : post 0) : wpX_value post (nc, ar, hv, ch, kt, ov, tc, lv, wt, a1, a2, a3, a4, a5, a6, a7, a8, a9, a10) p := by
  unfold wpX_value
  dsimp only
  exact sg_isNode_f hn hp (br_t rfl h)
theorem sg_had_j {nc ar hv ch kt ov tc lv wt : Int32} {a1 a2 a3 a4 a5 a6 a7 a8 a9 a10 : Nat → Int32} {post : Int32 → Prop} {n j : Nat} (hn : nc = nI n) (h24 : n ≤ 24) (hj : j < n) (h : post (if sg_cb (a1 j) = true then 0 else if sg_bt hv j = true then 1 else 0)) : wpX_had post (nc, ar, hv, ch, kt, ov, tc, lv, wt, a1, a2, a3, a4, a5, a6, a7, a8, a9, a10) (nI j) := by
  unfold wpX_had
  dsimp only
  refine sg_isEvent_j hn h24 hj ?_
  cases hc : sg_cb (a1 j)
  · rw [hc] at h
    refine br_f (by decide) (sg_has (by omega) ?_)
    cases hb : sg_bt hv j
    · rw [hb] at h
      exact br_t rfl h
    · rw [hb] at h
      exact br_f (by decide) h
  · rw [hc] at h
    exact br_t rfl h
theorem sg_had_f {nc ar hv ch kt ov tc lv wt : Int32} {a1 a2 a3 a4 a5 a6 a7 a8 a9 a10 : Nat → Int32} {post : Int32 → Prop} {n : Nat} {p : Int32} (hn : nc = nI n) (hp : p < 0 ∨ nI n ≤ p) (h : post 0) : wpX_had post (nc, ar, hv, ch, kt, ov, tc, lv, wt, a1, a2, a3, a4, a5, a6, a7, a8, a9, a10) p := by
  unfold wpX_had
  dsimp only
  exact sg_isEvent_f hn hp (br_t rfl h)
theorem sg_times_j {nc ar hv ch kt ov tc lv wt : Int32} {a1 a2 a3 a4 a5 a6 a7 a8 a9 a10 : Nat → Int32} {post : Int32 → Prop} {n j : Nat} (hn : nc = nI n) (h24 : n ≤ 24) (hj : j < n) (h : post (a10 j)) : wpX_times post (nc, ar, hv, ch, kt, ov, tc, lv, wt, a1, a2, a3, a4, a5, a6, a7, a8, a9, a10) (nI j) := by
  unfold wpX_times
  dsimp only
  rw [nI_clamp (by omega)]
  exact sg_isNode_t hn h24 hj (br_f (by decide) ⟨vp_in_nI (by omega) (by omega), h⟩)
theorem sg_times_f {nc ar hv ch kt ov tc lv wt : Int32} {a1 a2 a3 a4 a5 a6 a7 a8 a9 a10 : Nat → Int32} {post : Int32 → Prop} {n : Nat} {p : Int32} (hn : nc = nI n) (hp : p < 0 ∨ nI n ≤ p) (h : post (-1)) : wpX_times post (nc, ar, hv, ch, kt, ov, tc, lv, wt, a1, a2, a3, a4, a5, a6, a7, a8, a9, a10) p := by
  unfold wpX_times
  dsimp only
  exact sg_isNode_f hn hp (br_t rfl h)
theorem sg_sort_j {nc ar hv ch kt ov tc lv wt : Int32} {a1 a2 a3 a4 a5 a6 a7 a8 a9 a10 : Nat → Int32} {post : Int32 → Prop} {n j : Nat} (hn : nc = nI n) (h24 : n ≤ 24) (hj : j < n) (h : post (if sg_cb (a1 j) = true then 2 else 1)) : wpX_sort post (nc, ar, hv, ch, kt, ov, tc, lv, wt, a1, a2, a3, a4, a5, a6, a7, a8, a9, a10) (nI j) := by
  unfold wpX_sort
  dsimp only
  refine sg_isNode_t hn h24 hj (br_f (by decide) ⟨vp_in_nI (by omega) (by omega), ?_⟩)
  rw [nI_clamp (by omega)]
  refine sg_cellKind ?_
  cases hc : sg_cb (a1 j)
  · rw [hc] at h
    exact br_t rfl h
  · rw [hc] at h
    exact br_f (by decide) h
theorem sg_sort_f {nc ar hv ch kt ov tc lv wt : Int32} {a1 a2 a3 a4 a5 a6 a7 a8 a9 a10 : Nat → Int32} {post : Int32 → Prop} {n : Nat} {p : Int32} (hn : nc = nI n) (hp : p < 0 ∨ nI n ≤ p) (h : post (-1)) : wpX_sort post (nc, ar, hv, ch, kt, ov, tc, lv, wt, a1, a2, a3, a4, a5, a6, a7, a8, a9, a10) p := by
  unfold wpX_sort
  dsimp only
  exact sg_isNode_f hn hp (br_t rfl h)
/-! the same, over a picture -/
theorem sg_ix (p : Int32) {n : Nat} (h : n ≤ 24) : (p < 0 ∨ nI n ≤ p) ∨ ∃ j : Nat, j < n ∧ p = nI j := by
  rcases pk_ix p (show n < 2 ^ 31 by omega) with z | z | z
  · exact Or.inl (Or.inl z)
  · exact Or.inl (Or.inr z)
  · exact Or.inr z
theorem sg_q_had {g : sg_G} (w : sg_WF g) (p : Int32) : ∃ r, sg_Q g (fun post u => wpX_had post u p) r := by
  obtain ⟨n, K, X, Y, Z, V, Q, T, H, P, O, c⟩ := g
  obtain ⟨h24, w1, w2, w3⟩ := w
  rcases sg_ix p h24 with hp | ⟨j, hj, rfl⟩
  · refine ⟨0, fun u hu post h => ?_⟩
    obtain ⟨nc, ar, hv, ch, kt, ov, tc, lv, wt, a1, a2, a3, a4, a5, a6, a7, a8, a9, a10⟩ := u
    obtain ⟨e1, e2, e3, e4⟩ := hu
    exact sg_had_f e1 hp h
  · refine ⟨if sg_cb (K j) = true then 0 else if H j = true then 1 else 0, fun u hu post h => ?_⟩
    obtain ⟨nc, ar, hv, ch, kt, ov, tc, lv, wt, a1, a2, a3, a4, a5, a6, a7, a8, a9, a10⟩ := u
    obtain ⟨e1, e2, e3, e4⟩ := hu
    obtain ⟨f1, f2, f3, f4, f5, f6, f7, f8, f9, f10⟩ := e3 j hj
    refine sg_had_j e1 h24 hj ?_
    rw [f1, f8]
    exact h
theorem sg_q_value {g : sg_G} (w : sg_WF g) (p : Int32) : ∃ r, sg_Q g (fun post u => wpX_value post u p) r := by
  obtain ⟨n, K, X, Y, Z, V, Q, T, H, P, O, c⟩ := g
  obtain ⟨h24, w1, w2, w3⟩ := w
  rcases sg_ix p h24 with hp | ⟨j, hj, rfl⟩
  · refine ⟨0, fun u hu post h => ?_⟩
    obtain ⟨nc, ar, hv, ch, kt, ov, tc, lv, wt, a1, a2, a3, a4, a5, a6, a7, a8, a9, a10⟩ := u
    obtain ⟨e1, e2, e3, e4⟩ := hu
    exact sg_value_f e1 hp h
  · refine ⟨if sg_cb (K j) = true then V j else if H j = true then V j else 0, fun u hu post h => ?_⟩
    obtain ⟨nc, ar, hv, ch, kt, ov, tc, lv, wt, a1, a2, a3, a4, a5, a6, a7, a8, a9, a10⟩ := u
    obtain ⟨e1, e2, e3, e4⟩ := hu
    obtain ⟨f1, f2, f3, f4, f5, f6, f7, f8, f9, f10⟩ := e3 j hj
    refine sg_value_j e1 h24 hj ?_
    rw [f1, f5, f8]
    exact h
theorem sg_q_times {g : sg_G} (w : sg_WF g) (p : Int32) : ∃ r, sg_Q g (fun post u => wpX_times post u p) r := by
  obtain ⟨n, K, X, Y, Z, V, Q, T, H, P, O, c⟩ := g
  obtain ⟨h24, w1, w2, w3⟩ := w
  rcases sg_ix p h24 with hp | ⟨j, hj, rfl⟩
  · refine ⟨-1, fun u hu post h => ?_⟩
    obtain ⟨nc, ar, hv, ch, kt, ov, tc, lv, wt, a1, a2, a3, a4, a5, a6, a7, a8, a9, a10⟩ := u
    obtain ⟨e1, e2, e3, e4⟩ := hu
    exact sg_times_f e1 hp h
  · refine ⟨T j, fun u hu post h => ?_⟩
    obtain ⟨nc, ar, hv, ch, kt, ov, tc, lv, wt, a1, a2, a3, a4, a5, a6, a7, a8, a9, a10⟩ := u
    obtain ⟨e1, e2, e3, e4⟩ := hu
    obtain ⟨f1, f2, f3, f4, f5, f6, f7, f8, f9, f10⟩ := e3 j hj
    refine sg_times_j e1 h24 hj ?_
    rw [f7]
    exact h
theorem sg_q_sort {g : sg_G} (w : sg_WF g) (p : Int32) : ∃ r, sg_Q g (fun post u => wpX_sort post u p) r := by
  obtain ⟨n, K, X, Y, Z, V, Q, T, H, P, O, c⟩ := g
  obtain ⟨h24, w1, w2, w3⟩ := w
  rcases sg_ix p h24 with hp | ⟨j, hj, rfl⟩
  · refine ⟨-1, fun u hu post h => ?_⟩
    obtain ⟨nc, ar, hv, ch, kt, ov, tc, lv, wt, a1, a2, a3, a4, a5, a6, a7, a8, a9, a10⟩ := u
    obtain ⟨e1, e2, e3, e4⟩ := hu
    exact sg_sort_f e1 hp h
  · refine ⟨if sg_cb (K j) = true then 2 else 1, fun u hu post h => ?_⟩
    obtain ⟨nc, ar, hv, ch, kt, ov, tc, lv, wt, a1, a2, a3, a4, a5, a6, a7, a8, a9, a10⟩ := u
    obtain ⟨e1, e2, e3, e4⟩ := hu
    obtain ⟨f1, f2, f3, f4, f5, f6, f7, f8, f9, f10⟩ := e3 j hj
    refine sg_sort_j e1 h24 hj ?_
    rw [f1]
    exact h
end
section
/-! parts, and what one comes to over parts -/
theorem sg_pb {x : Int32} {a m : Nat} (hx : x = nI a) (ha : a < 24) (hm : m < 32) : (sg_bt ((1 : Int32) <<< (x &&& 31)) m = true) ↔ (m < 24 ∧ x = nI m) := by
  rw [hx, sg_b_one a (by omega) m hm]
  constructor
  · intro h
    have e : m = a := by simpa using h
    subst e
    exact ⟨ha, rfl⟩
  · intro h
    have e : a = m := sg_inj (by omega) (by omega) h.2
    simp [e]
theorem sg_partsOf {nc ar hv ch kt ov tc lv wt : Int32} {a1 a2 a3 a4 a5 a6 a7 a8 a9 a10 : Nat → Int32} {post : Int32 → Prop} {n i : Nat} {K : Nat → Int32} (h24 : n ≤ 24) (hi : i < n) (hok : sg_ok n K i (a1 i) (a2 i) (a3 i) (a4 i))
    (h : ∀ r, (∀ m, m < 32 → (sg_bt r m = true ↔ sg_part (a1 i) (a2 i) (a3 i) (a4 i) m)) → post r) : wpX_partsOf post (nc, ar, hv, ch, kt, ov, tc, lv, wt, a1, a2, a3, a4, a5, a6, a7, a8, a9, a10) (nI i) := by
  have hin : vp_in (nI i) 24 := vp_in_nI (by omega) (by omega)
  obtain ⟨o1, o2, o3, o4⟩ := hok
  unfold wpX_partsOf
  dsimp only
  unfold wX_partsOf_90 wX_partsOf_101
  rw [nI_clamp (show i < 2 ^ 31 by omega)]
  generalize a1 i = k at *
  generalize a2 i = x at *
  generalize a3 i = y at *
  generalize a4 i = z at *
  unfold sg_part at h
  refine ⟨hin, nm_e ?_⟩
  refine br_c (fun e => h 0 (fun m hm => ?_)) (fun e0 => ?_)
  · rw [sg_b_0]
    exact ⟨fun q => (nomatch q), fun q => absurd e q.2.1⟩
  refine br_c (fun e => h 0 (fun m hm => ?_)) (fun e11 => ?_)
  · rw [sg_b_0]
    exact ⟨fun q => (nomatch q), fun q => absurd e q.2.2.1⟩
  refine br_c (fun e => ⟨hin, br_c (fun c => ⟨hin, h _ (fun m hm => ?_)⟩) (fun c => h 0 (fun m hm => ?_))⟩) (fun e4 => ?_)
  · rcases o1 e with q | ⟨a, ha, q⟩
    · rw [q] at c
      exact absurd c (by decide)
    · rw [sg_pb q (by omega) hm]
      simp [e]
  · rcases o1 e with q | ⟨a, ha, q⟩
    · rw [sg_b_0]
      refine ⟨fun q => (nomatch q), fun t => ?_⟩
      rcases t.2.2.2 with t2 | t2 | t2
      · rw [t2.2] at q
        exact absurd q (sg_nm1 (by omega))
      · exact absurd t2.1 (by rw [e]; decide)
      · exact absurd t2.1 (by rw [e]; decide)
    · rw [q] at c
      exact absurd (nI_pos' (by omega)) c
  refine br_c (fun e => ⟨hin, hin, h _ (fun m hm => ?_)⟩) (fun e10 => ?_)
  · obtain ⟨b, hb, q, _⟩ := o3 (by simp [e])
    obtain ⟨d, hd, t, _⟩ := o4 (by simp [e])
    rw [sg_b_or, Bool.or_eq_true, sg_pb q (by omega) hm, sg_pb t (by omega) hm]
    simp [e]
    constructor
    · rintro (⟨u, v⟩ | ⟨u, v⟩)
      · exact ⟨u, Or.inl v⟩
      · exact ⟨u, Or.inr v⟩
    · rintro ⟨u, v | v⟩
      · exact Or.inl ⟨u, v⟩
      · exact Or.inr ⟨u, v⟩
  obtain ⟨a, ha, q, _⟩ := o2 e0 e4
  refine ⟨hin, nm_e ?_⟩
  refine br_c (fun e => ⟨hin, nm_e ?_⟩) (fun e3 => br_c (fun e => ⟨hin, nm_e ?_⟩) (fun e6 => br_c (fun e => ⟨hin, hin, nm_e (h _ (fun m hm => ?_))⟩) (fun e13 => h _ (fun m hm => ?_))))
  · refine br_f (by rw [e]; decide) (h _ (fun m hm => ?_))
    obtain ⟨b, hb, q2, _⟩ := o3 (by simp [e])
    rw [sg_b_or, Bool.or_eq_true, sg_pb q (by omega) hm, sg_pb q2 (by omega) hm]
    simp [e]
    constructor
    · rintro (⟨u, v⟩ | ⟨u, v⟩)
      · exact ⟨u, Or.inl v⟩
      · exact ⟨u, Or.inr v⟩
    · rintro ⟨u, v | v⟩
      · exact Or.inl ⟨u, v⟩
      · exact Or.inr ⟨u, v⟩
  · refine br_f (by rw [e]; decide) (h _ (fun m hm => ?_))
    obtain ⟨b, hb, q2, _⟩ := o3 (by simp [e])
    rw [sg_b_or, Bool.or_eq_true, sg_pb q (by omega) hm, sg_pb q2 (by omega) hm]
    simp [e]
    constructor
    · rintro (⟨u, v⟩ | ⟨u, v⟩)
      · exact ⟨u, Or.inl v⟩
      · exact ⟨u, Or.inr v⟩
    · rintro ⟨u, v | v⟩
      · exact Or.inl ⟨u, v⟩
      · exact Or.inr ⟨u, v⟩
  · obtain ⟨b, hb, q2, _⟩ := o3 (by simp [e])
    obtain ⟨d, hd, t, _⟩ := o4 (by simp [e])
    rw [sg_b_or, sg_b_or, Bool.or_eq_true, Bool.or_eq_true, sg_pb q (by omega) hm, sg_pb q2 (by omega) hm, sg_pb t (by omega) hm]
    simp [e]
    constructor
    · rintro (⟨u, v⟩ | ⟨u, v⟩ | ⟨u, v⟩)
      · exact ⟨u, Or.inl v⟩
      · exact ⟨u, Or.inr (Or.inl v)⟩
      · exact ⟨u, Or.inr (Or.inr v)⟩
    · rintro ⟨u, v | v | v⟩
      · exact Or.inl ⟨u, v⟩
      · exact Or.inr (Or.inl ⟨u, v⟩)
      · exact Or.inr (Or.inr ⟨u, v⟩)
  · rw [sg_pb q (by omega) hm]
    simp [e0, e11, e10, e3, e6, e13]
/-- all that one comes to from i over the relation P, at least one step -/
def sg_rc (P : Nat → Nat → Prop) (i m : Nat) : Prop := ∀ S : Nat → Prop, (∀ q, P i q → S q) → (∀ a b, S a → P a b → S b) → S m
theorem sg_rc_1 {P : Nat → Nat → Prop} {i m : Nat} (h : P i m) : sg_rc P i m := fun S h1 h2 => h1 m h
theorem sg_rc_s {P : Nat → Nat → Prop} {i a b : Nat} (h : sg_rc P i a) (h2 : P a b) : sg_rc P i b := fun S s1 s2 => s2 a b (h S s1 s2) h2
theorem sg_rc_h {P : Nat → Nat → Prop} {i a b : Nat} (h : P i a) (h2 : sg_rc P a b) : sg_rc P i b := h2 (fun m => sg_rc P i m) (fun q hq => sg_rc_s (sg_rc_1 h) hq) (fun c d hc hd => sg_rc_s hc hd)
/-- parts in a graph of n nodes -/
def sg_P (n : Nat) (K X Y Z : Nat → Int32) (i m : Nat) : Prop := i < n ∧ sg_part (K i) (X i) (Y i) (Z i) m
theorem sg_part_lt {n : Nat} {K : Nat → Int32} {i m : Nat} {k x y z : Int32} (h24 : n ≤ 24) (hi : i < n) (hok : sg_ok n K i k x y z) (h : sg_part k x y z m) : m < n := by
  obtain ⟨o1, o2, o3, o4⟩ := hok
  obtain ⟨hm, e0, e11, h⟩ := h
  rcases h with ⟨e10, h⟩ | ⟨e, h⟩ | ⟨e, h⟩
  · by_cases e4 : k = 4
    · rcases o1 e4 with q | ⟨a, ha, q⟩
      · rw [h] at q
        exact absurd q (sg_nm1 (by omega))
      · rw [h] at q
        have := sg_inj (by omega) (by omega) q
        omega
    · obtain ⟨a, ha, q, _⟩ := o2 e0 e4
      rw [h] at q
      have := sg_inj (by omega) (by omega) q
      omega
  · obtain ⟨a, ha, q, _⟩ := o3 (by rcases e with e | e | e | e <;> simp [e])
    rw [h] at q
    have := sg_inj (by omega) (by omega) q
    omega
  · obtain ⟨a, ha, q, _⟩ := o4 e
    rw [h] at q
    have := sg_inj (by omega) (by omega) q
    omega
theorem sg_rc_rk {n : Nat} {K X Y Z : Nat → Int32} {rk : Nat → Nat} {B : Nat} (h24 : n ≤ 24) (hok : ∀ i, i < n → sg_ok n K i (K i) (X i) (Y i) (Z i)) (hr : ∀ i, i < n → rk i < B ∧ ∀ m, sg_part (K i) (X i) (Y i) (Z i) m → rk m < rk i) {i m : Nat} (hi : i < n) (h : sg_rc (sg_P n K X Y Z) i m) : m < n ∧ rk m < rk i := by
  refine h (fun m => m < n ∧ rk m < rk i) (fun q hq => ⟨sg_part_lt h24 hi (hok i hi) hq.2, (hr i hi).2 q hq.2⟩) (fun a b ha hb => ?_)
  have h1 := (hr a ha.1).2 b hb.2
  exact ⟨sg_part_lt h24 ha.1 (hok a ha.1) hb.2, by omega⟩
/-- one walk over the nodes in 'below' -/
theorem sg_below_18 {nc ar hv ch kt ov tc lv wt : Int32} {a1 a2 a3 a4 a5 a6 a7 a8 a9 a10 : Nat → Int32} {post : Int32 → Prop} {J : Int32 → Int32 → Prop} {n i : Nat} {K X Y Z : Nat → Int32} {B : Int32} (hn : nc = nI n) (h24 : n ≤ 24)
    (hok : ∀ i, i < n → sg_ok n K i (K i) (X i) (Y i) (Z i)) (he : ∀ i, i < n → a1 i = K i ∧ a2 i = X i ∧ a3 i = Y i ∧ a4 i = Z i)
    (hJ : ∀ x, (∀ m, m < 32 → sg_bt B m = true → sg_bt x m = true) → (∀ m, m < 32 → sg_bt x m = true → sg_rc (sg_P n K X Y Z) i m) → (∀ a, a < n → sg_bt B a = true → ∀ m, m < 32 → sg_part (K a) (X a) (Y a) (Z a) m → sg_bt x m = true) → J x B) :
    ∀ d j x, j + d = n → (∀ m, m < 32 → sg_bt B m = true → sg_bt x m = true) → (∀ m, m < 32 → sg_bt x m = true → sg_rc (sg_P n K X Y Z) i m) → (∀ a, a < j → sg_bt B a = true → ∀ m, m < 32 → sg_part (K a) (X a) (Y a) (Z a) m → sg_bt x m = true) →
      wX_below_18 post J B nc ar hv ch kt ov tc lv wt a1 a2 a3 a4 a5 a6 a7 a8 a9 a10 (d + 1) x (nI j) := by
  intro d
  induction d with
  | zero =>
    intro j x hj i1 i2 i3
    refine br_t (by rw [hn]; exact nI_le (by omega) (by omega)) (hJ x i1 i2 (fun a ha => i3 a (by omega)))
  | succ d ih =>
    intro j x hj i1 i2 i3
    refine br_f (by rw [hn]; exact nI_ge (by omega) (by omega)) (br_c (fun e => nm_r (nI_1 j) ?_) (fun e => ?_))
    · rw [sg_bz (by omega)] at e
      refine ih (j + 1) x (by omega) i1 i2 (fun a ha hb => ?_)
      by_cases ea : a = j
      · subst ea
        rw [i1 a (by omega) hb] at e
        exact nomatch e
      · exact i3 a (by omega) hb
    · rw [sg_bnz (by omega)] at e
      obtain ⟨f1, f2, f3, f4⟩ := he j (by omega)
      refine sg_partsOf (n := n) (K := K) h24 (by omega) (by rw [f1, f2, f3, f4]; exact hok j (by omega)) (fun r hr => nm_e (nm_r (nI_1 j) ?_))
      rw [f1, f2, f3, f4] at hr
      refine ih (j + 1) (x ||| r) (by omega) (fun m hm hb => ?_) (fun m hm hb => ?_) (fun a ha hb m hm hp => ?_)
      · rw [sg_b_or, i1 m hm hb]
        rfl
      · rw [sg_b_or, Bool.or_eq_true] at hb
        rcases hb with hb | hb
        · exact i2 m hm hb
        · exact sg_rc_s (i2 j (by omega) e) ⟨by omega, (hr m hm).mp hb⟩
      · rw [sg_b_or, Bool.or_eq_true]
        by_cases ea : a = j
        · subst ea
          exact Or.inr ((hr m hm).mpr hp)
        · exact Or.inl (i3 a (by omega) hb m hm hp)
theorem sg_below_8 {nc ar hv ch kt ov tc lv wt : Int32} {a1 a2 a3 a4 a5 a6 a7 a8 a9 a10 : Nat → Int32} {post : Int32 → Prop} {n i : Nat} {K X Y Z : Nat → Int32} (hn : nc = nI n) (h24 : n ≤ 24) (hi : i < n)
    (hok : ∀ i, i < n → sg_ok n K i (K i) (X i) (Y i) (Z i)) (he : ∀ i, i < n → a1 i = K i ∧ a2 i = X i ∧ a3 i = Y i ∧ a4 i = Z i)
    (hp : ∀ r, (∀ m, m < 32 → (sg_bt r m = true ↔ sg_rc (sg_P n K X Y Z) i m)) → post r) :
    ∀ b x B, 2 ^ 32 ≤ x.toBitVec.toNat + b → (∀ m, m < 32 → sg_bt B m = true → sg_bt x m = true) → (∀ m, m < 32 → sg_part (K i) (X i) (Y i) (Z i) m → sg_bt x m = true) → (∀ m, m < 32 → sg_bt x m = true → sg_rc (sg_P n K X Y Z) i m) →
      (x = B → ∀ a, a < n → sg_bt x a = true → ∀ m, m < 32 → sg_part (K a) (X a) (Y a) (Z a) m → sg_bt x m = true) →
      wX_below_8 post nc ar hv ch kt ov tc lv wt a1 a2 a3 a4 a5 a6 a7 a8 a9 a10 (b + 1) x B := by
  intro b
  induction b with
  | zero =>
    intro x B hb
    have := x.toBitVec.isLt
    omega
  | succ b ih =>
    intro x B hb i1 i2 i3 i4
    refine br_c (fun e => hp x (fun m hm => ⟨i3 m hm, fun hr => ?_⟩)) (fun e => ⟨n + 1, ?_⟩)
    · refine (hr (fun m => m < n ∧ sg_bt x m = true) (fun q hq => ?_) (fun a c ha hc => ?_)).2
      · have hq2 := sg_part_lt h24 hi (hok i hi) hq.2
        exact ⟨hq2, i2 q (by omega) hq.2⟩
      · have hc2 := sg_part_lt h24 ha.1 (hok a ha.1) hc.2
        exact ⟨hc2, i4 e a ha.1 ha.2 c (by omega) hc.2⟩
    · refine sg_below_18 (i := i) (K := K) (X := X) (Y := Y) (Z := Z) (n := n) hn h24 hok he (fun y j1 j2 j3 => ?_) n 0 x (by omega) (fun m _ h => h) i3 (fun a ha => absurd ha (by omega))
      by_cases exy : x = y
      · subst exy
        refine br_t rfl (hp x (fun m hm => ⟨i3 m hm, fun hr => ?_⟩))
        refine (hr (fun m => m < n ∧ sg_bt x m = true) (fun q hq => ?_) (fun a c ha hc => ?_)).2
        · have hq2 := sg_part_lt h24 hi (hok i hi) hq.2
          exact ⟨hq2, i2 q (by omega) hq.2⟩
        · have hc2 := sg_part_lt h24 ha.1 (hok a ha.1) hc.2
          exact ⟨hc2, j3 a ha.1 ha.2 c (by omega) hc.2⟩
      · have hlt := sg_sub_lt j1 exy
        exact ih y x (by omega) j1 (fun m hm hq => j1 m hm (i2 m hm hq)) j2 (fun z => absurd z.symm exy)
theorem sg_below {nc ar hv ch kt ov tc lv wt : Int32} {a1 a2 a3 a4 a5 a6 a7 a8 a9 a10 : Nat → Int32} {post : Int32 → Prop} {n i : Nat} {K X Y Z : Nat → Int32} (hn : nc = nI n) (h24 : n ≤ 24) (hi : i < n)
    (hok : ∀ i, i < n → sg_ok n K i (K i) (X i) (Y i) (Z i)) (he : ∀ i, i < n → a1 i = K i ∧ a2 i = X i ∧ a3 i = Y i ∧ a4 i = Z i)
    (hp : ∀ r, (∀ m, m < 32 → (sg_bt r m = true ↔ sg_rc (sg_P n K X Y Z) i m)) → post r) : wpX_below post (nc, ar, hv, ch, kt, ov, tc, lv, wt, a1, a2, a3, a4, a5, a6, a7, a8, a9, a10) (nI i) := by
  unfold wpX_below
  dsimp only
  obtain ⟨f1, f2, f3, f4⟩ := he i hi
  refine sg_partsOf (n := n) (K := K) h24 hi (by rw [f1, f2, f3, f4]; exact hok i hi) (fun r hr => ⟨2 ^ 32 + 1, ?_⟩)
  rw [f1, f2, f3, f4] at hr
  refine sg_below_8 hn h24 hi hok he hp (2 ^ 32) r 0 (by omega) (fun m hm hb => ?_) (fun m hm hq => (hr m hm).mpr hq) (fun m hm hb => sg_rc_1 ⟨hi, (hr m hm).mp hb⟩) (fun e a ha hb => ?_)
  · rw [sg_b_0] at hb
    exact nomatch hb
  · rw [e, sg_b_0] at hb
    exact nomatch hb
end
section
/-! reaches, leads, tie, fire, level, forget, retract -/
theorem sg_reaches {nc ar hv ch kt ov tc lv wt : Int32} {a1 a2 a3 a4 a5 a6 a7 a8 a9 a10 : Nat → Int32} {post : Int32 → Prop} {n i m : Nat} {K X Y Z : Nat → Int32} (hn : nc = nI n) (h24 : n ≤ 24) (hi : i < n) (hm : m < n)
    (hok : ∀ i, i < n → sg_ok n K i (K i) (X i) (Y i) (Z i)) (he : ∀ i, i < n → a1 i = K i ∧ a2 i = X i ∧ a3 i = Y i ∧ a4 i = Z i)
    (h1 : i = m ∨ sg_rc (sg_P n K X Y Z) i m → post 1) (h0 : ¬ (i = m ∨ sg_rc (sg_P n K X Y Z) i m) → post 0) : wpX_reaches post (nc, ar, hv, ch, kt, ov, tc, lv, wt, a1, a2, a3, a4, a5, a6, a7, a8, a9, a10) (nI i) (nI m) := by
  unfold wpX_reaches
  dsimp only
  refine pk_eq i m (fun e => h1 (Or.inl e)) (fun e => ?_)
  refine sg_below hn h24 hi hok he (fun r hr => ?_)
  refine br_c (fun b => ?_) (fun b => ?_)
  · rw [sg_bz (by omega)] at b
    refine h0 (fun q => ?_)
    rcases q with q | q
    · exact e q
    · rw [(hr m (by omega)).mpr q] at b
      exact nomatch b
  · rw [sg_bnz (by omega)] at b
    exact h1 (Or.inr ((hr m (by omega)).mp b))
theorem sg_leads_j {nc ar hv ch kt ov tc lv wt : Int32} {a1 a2 a3 a4 a5 a6 a7 a8 a9 a10 : Nat → Int32} {post : Int32 → Prop} {n i m : Nat} {K X Y Z : Nat → Int32} (hn : nc = nI n) (h24 : n ≤ 24) (hi : i < n) (hm : m < n)
    (hok : ∀ i, i < n → sg_ok n K i (K i) (X i) (Y i) (Z i)) (he : ∀ i, i < n → a1 i = K i ∧ a2 i = X i ∧ a3 i = Y i ∧ a4 i = Z i)
    (h1 : sg_rc (sg_P n K X Y Z) i m → post 1) (h0 : ¬ sg_rc (sg_P n K X Y Z) i m → post 0) : wpX_leads post (nc, ar, hv, ch, kt, ov, tc, lv, wt, a1, a2, a3, a4, a5, a6, a7, a8, a9, a10) (nI i) (nI m) := by
  unfold wpX_leads
  dsimp only
  refine sg_isNode_t hn h24 hi (br_f (by decide) (sg_isNode_t hn h24 hm (br_f (by decide) ?_)))
  refine sg_below hn h24 hi hok he (fun r hr => ?_)
  refine br_c (fun b => ?_) (fun b => ?_)
  · rw [sg_bz (by omega)] at b
    refine h0 (fun q => ?_)
    rw [(hr m (by omega)).mpr q] at b
    exact nomatch b
  · rw [sg_bnz (by omega)] at b
    exact h1 ((hr m (by omega)).mp b)
theorem sg_q_leads {g : sg_G} (w : sg_WF g) (p q : Int32) : ∃ r, sg_Q g (fun post u => wpX_leads post u p q) r := by
  obtain ⟨n, K, X, Y, Z, V, Q, T, H, P, O, c⟩ := g
  obtain ⟨h24, w1, w2, w3⟩ := w
  rcases sg_ix p h24 with hp | ⟨i, hi, rfl⟩
  · refine ⟨0, fun u hu post h => ?_⟩
    obtain ⟨nc, ar, hv, ch, kt, ov, tc, lv, wt, a1, a2, a3, a4, a5, a6, a7, a8, a9, a10⟩ := u
    obtain ⟨e1, e2, e3, e4⟩ := hu
    unfold wpX_leads
    dsimp only
    exact sg_isNode_f e1 hp (br_t rfl h)
  · rcases sg_ix q h24 with hp | ⟨m, hm, rfl⟩
    · refine ⟨0, fun u hu post h => ?_⟩
      obtain ⟨nc, ar, hv, ch, kt, ov, tc, lv, wt, a1, a2, a3, a4, a5, a6, a7, a8, a9, a10⟩ := u
      obtain ⟨e1, e2, e3, e4⟩ := hu
      unfold wpX_leads
      dsimp only
      exact sg_isNode_t e1 h24 hi (br_f (by decide) (sg_isNode_f e1 hp (br_t rfl h)))
    · by_cases hc : sg_rc (sg_P n K X Y Z) i m
      · refine ⟨1, fun u hu post h => ?_⟩
        obtain ⟨nc, ar, hv, ch, kt, ov, tc, lv, wt, a1, a2, a3, a4, a5, a6, a7, a8, a9, a10⟩ := u
        obtain ⟨e1, e2, e3, e4⟩ := hu
        exact sg_leads_j e1 h24 hi hm w1 (fun i hi => ⟨(e3 i hi).1, (e3 i hi).2.1, (e3 i hi).2.2.1, (e3 i hi).2.2.2.1⟩) (fun _ => h) (fun z => absurd hc z)
      · refine ⟨0, fun u hu post h => ?_⟩
        obtain ⟨nc, ar, hv, ch, kt, ov, tc, lv, wt, a1, a2, a3, a4, a5, a6, a7, a8, a9, a10⟩ := u
        obtain ⟨e1, e2, e3, e4⟩ := hu
        exact sg_leads_j e1 h24 hi hm w1 (fun i hi => ⟨(e3 i hi).1, (e3 i hi).2.1, (e3 i hi).2.2.1, (e3 i hi).2.2.2.1⟩) (fun z => absurd z hc) (fun _ => h)
/-- a new tie keeps the graph well -/
theorem sg_wf_tie {n : Nat} {K X Y Z V : Nat → Int32} (w : sg_wf n K X Y Z V) {j : Nat} (hj : j < n) (hk : K j = 4) {q : Int32} (hq : q = -1 ∨ ∃ m, m < n ∧ q = nI m ∧ ¬ (m = j ∨ sg_rc (sg_P n K X Y Z) m j)) : sg_wf n K (upd X j q) Y Z V := by
  obtain ⟨h24, w1, ⟨rk, B, w2⟩, w3⟩ := w
  refine ⟨h24, fun i hi => ?_, ?_, fun i hi hc => ?_⟩
  · by_cases e : i = j
    · subst e
      rw [pk_us, hk]
      refine ⟨fun _ => ?_, fun _ z => absurd rfl z, fun z => absurd z (by decide), fun z => absurd z (by decide)⟩
      rcases hq with h | ⟨m, hm, h, _⟩
      · exact Or.inl h
      · exact Or.inr ⟨m, hm, h⟩
    · rw [pk_un e]
      exact w1 i hi
  · rcases hq with h | ⟨m, hm, h, hr⟩
    · refine ⟨rk, B, fun i hi => ⟨(w2 i hi).1, fun a ha => ?_⟩⟩
      by_cases e : i = j
      · subst e
        rw [pk_us, hk, h] at ha
        obtain ⟨hm, _, _, ha⟩ := ha
        rcases ha with ha | ha | ha
        · exact absurd ha.2.symm (sg_nm1 (by omega))
        · exact absurd ha.1 (by decide)
        · exact absurd ha.1 (by decide)
      · rw [pk_un e] at ha
        exact (w2 i hi).2 a ha
    · have hex : ∀ i, ∃ v : Nat, ((i = j ∨ sg_rc (sg_P n K X Y Z) i j) → v = rk i + B) ∧ (¬ (i = j ∨ sg_rc (sg_P n K X Y Z) i j) → v = rk i) := by
        intro i
        by_cases hc : i = j ∨ sg_rc (sg_P n K X Y Z) i j
        · exact ⟨rk i + B, fun _ => rfl, fun z => absurd hc z⟩
        · exact ⟨rk i, fun z => absurd z hc, fun _ => rfl⟩
      obtain ⟨rk', hrk⟩ := Classical.skolem.mp hex
      refine ⟨rk', B + B, fun i hi => ⟨?_, fun a ha => ?_⟩⟩
      · have h1 := (w2 i hi).1
        by_cases hc : i = j ∨ sg_rc (sg_P n K X Y Z) i j
        · rw [(hrk i).1 hc]
          omega
        · rw [(hrk i).2 hc]
          omega
      · by_cases e : i = j
        · subst e
          rw [pk_us, hk, h] at ha
          obtain ⟨ha0, _, _, ha⟩ := ha
          have ea : m = a := by
            rcases ha with ha | ha | ha
            · exact sg_inj (by omega) (by omega) ha.2
            · exact absurd ha.1 (by decide)
            · exact absurd ha.1 (by decide)
          subst ea
          rw [(hrk m).2 hr, (hrk i).1 (Or.inl rfl)]
          have := (w2 m hm).1
          omega
        · rw [pk_un e] at ha
          have h1 := (w2 i hi).2 a ha
          by_cases hc : a = j ∨ sg_rc (sg_P n K X Y Z) a j
          · have hi2 : sg_rc (sg_P n K X Y Z) i j := by
              rcases hc with z | z
              · subst z
                exact sg_rc_1 ⟨hi, ha⟩
              · exact sg_rc_h ⟨hi, ha⟩ z
            rw [(hrk a).1 hc, (hrk i).1 (Or.inr hi2)]
            omega
          · rw [(hrk a).2 hc]
            by_cases hc2 : i = j ∨ sg_rc (sg_P n K X Y Z) i j
            · rw [(hrk i).1 hc2]
              omega
            · rw [(hrk i).2 hc2]
              exact h1
  · have e : ¬ i = j := by
      intro e
      subst e
      rw [hk] at hc
      exact absurd hc (by decide)
    rw [pk_un e]
    exact w3 i hi hc
theorem sg_tie_ok {n : Nat} {K X Y Z V Q T : Nat → Int32} {H P O : Nat → Bool} {c : Int32} {nc ar hv ch kt ov tc lv wt : Int32} {a1 a2 a3 a4 a5 a6 a7 a8 a9 a10 : Nat → Int32} {post : Int32 → St1 → Prop} {j : Nat} {q : Int32} (h24 : n ≤ 24) (hj : j < n)
    (hu : sg_Rep (n, K, X, Y, Z, V, Q, T, H, P, O, c) (nc, ar, hv, ch, kt, ov, tc, lv, wt, a1, a2, a3, a4, a5, a6, a7, a8, a9, a10)) (h : ∀ v, sg_Rep (n, K, upd X j q, Y, Z, V, Q, T, H, P, O, c) v → post 1 v) : wX_tie_44 post (nI j) q nc ar hv ch kt ov tc lv wt a1 a2 a3 a4 a5 a6 a7 a8 a9 a10 := by
  obtain ⟨e1, e2, e3, e4⟩ := hu
  unfold wX_tie_44
  refine ⟨vp_in_nI (by omega) (by omega), nm_e ?_⟩
  rw [nI_clamp (by omega)]
  refine h _ ⟨e1, e2, fun i hi => ?_, fun z => absurd rfl z⟩
  obtain ⟨f1, f2, f3⟩ := e3 i hi
  refine ⟨f1, ?_, f3⟩
  by_cases e : i = j
  · subst e
    rw [pk_us, pk_us]
  · rw [pk_un e, pk_un e]
    exact f2
theorem sg_a_tie {g : sg_G} (w : sg_WF g) (p q : Int32) : ∃ r h, sg_WF h ∧ h.1 = g.1 ∧ sg_A g (fun post u => wpX_tie post u p q) r h := by
  obtain ⟨n, K, X, Y, Z, V, Q, T, H, P, O, c⟩ := g
  have w0 := w
  obtain ⟨h24, w1, w2, w3⟩ := w
  rcases sg_ix p h24 with hp | ⟨j, hj, rfl⟩
  · refine ⟨0, _, w0, rfl, fun u hu post h => ?_⟩
    obtain ⟨nc, ar, hv, ch, kt, ov, tc, lv, wt, a1, a2, a3, a4, a5, a6, a7, a8, a9, a10⟩ := u
    unfold wpX_tie
    dsimp only
    exact sg_isNode_f hu.1 hp (br_t rfl (h _ hu))
  by_cases hk : K j = 4
  rotate_left
  · refine ⟨0, _, w0, rfl, fun u hu post h => ?_⟩
    obtain ⟨nc, ar, hv, ch, kt, ov, tc, lv, wt, a1, a2, a3, a4, a5, a6, a7, a8, a9, a10⟩ := u
    have hu0 := hu
    obtain ⟨e1, e2, e3, e4⟩ := hu
    unfold wpX_tie
    dsimp only
    refine sg_isNode_t e1 h24 hj (br_f (by decide) ⟨vp_in_nI (by omega) (by omega), ?_⟩)
    rw [nI_clamp (by omega), (e3 j hj).1]
    exact br_f hk (h _ hu0)
  by_cases hq : q = -1
  · refine ⟨1, (n, K, upd X j q, Y, Z, V, Q, T, H, P, O, c), sg_wf_tie w0 hj hk (Or.inl hq), rfl, fun u hu post h => ?_⟩
    obtain ⟨nc, ar, hv, ch, kt, ov, tc, lv, wt, a1, a2, a3, a4, a5, a6, a7, a8, a9, a10⟩ := u
    have hu0 := hu
    obtain ⟨e1, e2, e3, e4⟩ := hu
    unfold wpX_tie
    dsimp only
    refine sg_isNode_t e1 h24 hj (br_f (by decide) ⟨vp_in_nI (by omega) (by omega), ?_⟩)
    rw [nI_clamp (by omega), (e3 j hj).1]
    exact br_t hk (br_t hq (sg_tie_ok h24 hj hu0 h))
  rcases sg_ix q h24 with hp | ⟨m, hm, rfl⟩
  · refine ⟨0, _, w0, rfl, fun u hu post h => ?_⟩
    obtain ⟨nc, ar, hv, ch, kt, ov, tc, lv, wt, a1, a2, a3, a4, a5, a6, a7, a8, a9, a10⟩ := u
    have hu0 := hu
    obtain ⟨e1, e2, e3, e4⟩ := hu
    unfold wpX_tie
    dsimp only
    refine sg_isNode_t e1 h24 hj (br_f (by decide) ⟨vp_in_nI (by omega) (by omega), ?_⟩)
    rw [nI_clamp (by omega), (e3 j hj).1]
    exact br_t hk (br_f hq (sg_isEvent_f e1 hp (br_t rfl (h _ hu0))))
  by_cases hcb : sg_cb (K m) = true
  · refine ⟨0, _, w0, rfl, fun u hu post h => ?_⟩
    obtain ⟨nc, ar, hv, ch, kt, ov, tc, lv, wt, a1, a2, a3, a4, a5, a6, a7, a8, a9, a10⟩ := u
    have hu0 := hu
    obtain ⟨e1, e2, e3, e4⟩ := hu
    unfold wpX_tie
    dsimp only
    refine sg_isNode_t e1 h24 hj (br_f (by decide) ⟨vp_in_nI (by omega) (by omega), ?_⟩)
    rw [nI_clamp (by omega), (e3 j hj).1]
    refine br_t hk (br_f hq (sg_isEvent_j e1 h24 hm ?_))
    rw [(e3 m hm).1, if_pos hcb]
    exact br_t rfl (h _ hu0)
  by_cases hrc : m = j ∨ sg_rc (sg_P n K X Y Z) m j
  · refine ⟨0, _, w0, rfl, fun u hu post h => ?_⟩
    obtain ⟨nc, ar, hv, ch, kt, ov, tc, lv, wt, a1, a2, a3, a4, a5, a6, a7, a8, a9, a10⟩ := u
    have hu0 := hu
    obtain ⟨e1, e2, e3, e4⟩ := hu
    unfold wpX_tie
    dsimp only
    refine sg_isNode_t e1 h24 hj (br_f (by decide) ⟨vp_in_nI (by omega) (by omega), ?_⟩)
    rw [nI_clamp (by omega), (e3 j hj).1]
    refine br_t hk (br_f hq (sg_isEvent_j e1 h24 hm ?_))
    rw [(e3 m hm).1, if_neg hcb]
    refine br_f (by decide) (sg_reaches e1 h24 hm hj w1 (fun i hi => ⟨(e3 i hi).1, (e3 i hi).2.1, (e3 i hi).2.2.1, (e3 i hi).2.2.2.1⟩) (fun _ => br_f (by decide) (h _ hu0)) (fun z => absurd hrc z))
  · refine ⟨1, (n, K, upd X j (nI m), Y, Z, V, Q, T, H, P, O, c), sg_wf_tie w0 hj hk (Or.inr ⟨m, hm, rfl, hrc⟩), rfl, fun u hu post h => ?_⟩
    obtain ⟨nc, ar, hv, ch, kt, ov, tc, lv, wt, a1, a2, a3, a4, a5, a6, a7, a8, a9, a10⟩ := u
    have hu0 := hu
    obtain ⟨e1, e2, e3, e4⟩ := hu
    unfold wpX_tie
    dsimp only
    refine sg_isNode_t e1 h24 hj (br_f (by decide) ⟨vp_in_nI (by omega) (by omega), ?_⟩)
    rw [nI_clamp (by omega), (e3 j hj).1]
    refine br_t hk (br_f hq (sg_isEvent_j e1 h24 hm ?_))
    rw [(e3 m hm).1, if_neg hcb]
    refine br_f (by decide) (sg_reaches e1 h24 hm hj w1 (fun i hi => ⟨(e3 i hi).1, (e3 i hi).2.1, (e3 i hi).2.2.1, (e3 i hi).2.2.2.1⟩) (fun z => absurd z hrc) (fun _ => br_t rfl (sg_tie_ok h24 hj hu0 h)))
/-- a tie that would close a circle is refused -/
theorem sg_a_tie_no {n : Nat} {K X Y Z V Q T : Nat → Int32} {H P O : Nat → Bool} {c : Int32} (w : sg_wf n K X Y Z V) {j m : Nat} (hj : j < n) (hm : m < n) (hk : K j = 4) (hcb : sg_cb (K m) = false) (hrc : sg_rc (sg_P n K X Y Z) m j) :
    sg_A (n, K, X, Y, Z, V, Q, T, H, P, O, c) (fun post u => wpX_tie post u (nI j) (nI m)) 0 (n, K, X, Y, Z, V, Q, T, H, P, O, c) := by
  obtain ⟨h24, w1, w2, w3⟩ := w
  intro u hu post h
  obtain ⟨nc, ar, hv, ch, kt, ov, tc, lv, wt, a1, a2, a3, a4, a5, a6, a7, a8, a9, a10⟩ := u
  have hu0 := hu
  obtain ⟨e1, e2, e3, e4⟩ := hu
  unfold wpX_tie
  dsimp only
  refine sg_isNode_t e1 h24 hj (br_f (by decide) ⟨vp_in_nI (by omega) (by omega), ?_⟩)
  rw [nI_clamp (by omega), (e3 j hj).1]
  refine br_t hk (br_f (sg_nm1 (by omega)) (sg_isEvent_j e1 h24 hm ?_))
  rw [(e3 m hm).1, hcb]
  exact br_f (by decide) (sg_reaches e1 h24 hm hj w1 (fun i hi => ⟨(e3 i hi).1, (e3 i hi).2.1, (e3 i hi).2.2.1, (e3 i hi).2.2.2.1⟩) (fun _ => br_f (by decide) (h _ hu0)) (fun z => absurd (Or.inr hrc) z))
theorem sg_a_tie_f {g : sg_G} (w : sg_WF g) {p q : Int32} (hp : p < 0 ∨ nI g.1 ≤ p) : sg_A g (fun post u => wpX_tie post u p q) 0 g := by
  obtain ⟨n, K, X, Y, Z, V, Q, T, H, P, O, c⟩ := g
  intro u hu post h
  obtain ⟨nc, ar, hv, ch, kt, ov, tc, lv, wt, a1, a2, a3, a4, a5, a6, a7, a8, a9, a10⟩ := u
  unfold wpX_tie
  dsimp only
  exact sg_isNode_f hu.1 hp (br_t rfl (h _ hu))
/-! fire -/
theorem sg_a_fire_j {n : Nat} {K X Y Z V Q T : Nat → Int32} {H P O : Nat → Bool} {c : Int32} (h24 : n ≤ 24) {j : Nat} (hj : j < n) (hk : K j = 0) (q : Int32) :
    sg_A (n, K, X, Y, Z, V, Q, T, H, P, O, c) (fun post u => wpX_fire post u (nI j) q) 1 (n, K, X, Y, Z, V, upd Q j q, T, H, fun i => P i || decide (i = j), O, c) := by
  intro u hu post h
  obtain ⟨nc, ar, hv, ch, kt, ov, tc, lv, wt, a1, a2, a3, a4, a5, a6, a7, a8, a9, a10⟩ := u
  obtain ⟨e1, e2, e3, e4⟩ := hu
  unfold wpX_fire
  dsimp only
  refine sg_isNode_t e1 h24 hj (br_f (by decide) ⟨vp_in_nI (by omega) (by omega), ?_⟩)
  rw [nI_clamp (by omega), (e3 j hj).1]
  refine br_t hk ⟨vp_in_nI (by omega) (by omega), nm_e (nm_e (h _ ⟨e1, e2, fun i hi => ?_, e4⟩))⟩
  obtain ⟨f1, f2, f3, f4, f5, f6, f7, f8, f9, f10⟩ := e3 i hi
  refine ⟨f1, f2, f3, f4, f5, ?_, f7, f8, ?_, f10⟩
  · by_cases e : i = j
    · subst e
      rw [pk_us, pk_us]
    · rw [pk_un e, pk_un e]
      exact f6
  · rw [sg_b_set (by omega) (by omega), f9]
theorem sg_a_fire {g : sg_G} (w : sg_WF g) (p q : Int32) : ∃ r h, sg_WF h ∧ h.1 = g.1 ∧ sg_A g (fun post u => wpX_fire post u p q) r h := by
  obtain ⟨n, K, X, Y, Z, V, Q, T, H, P, O, c⟩ := g
  have w0 := w
  obtain ⟨h24, w1, w2, w3⟩ := w
  rcases sg_ix p h24 with hp | ⟨j, hj, rfl⟩
  · refine ⟨0, _, w0, rfl, fun u hu post h => ?_⟩
    obtain ⟨nc, ar, hv, ch, kt, ov, tc, lv, wt, a1, a2, a3, a4, a5, a6, a7, a8, a9, a10⟩ := u
    unfold wpX_fire
    dsimp only
    exact sg_isNode_f hu.1 hp (br_t rfl (h _ hu))
  by_cases hk : K j = 0
  · exact ⟨1, (n, K, X, Y, Z, V, upd Q j q, T, H, fun i => P i || decide (i = j), O, c), ⟨h24, w1, w2, w3⟩, rfl, sg_a_fire_j h24 hj hk q⟩
  · refine ⟨0, _, w0, rfl, fun u hu post h => ?_⟩
    obtain ⟨nc, ar, hv, ch, kt, ov, tc, lv, wt, a1, a2, a3, a4, a5, a6, a7, a8, a9, a10⟩ := u
    have hu0 := hu
    obtain ⟨e1, e2, e3, e4⟩ := hu
    unfold wpX_fire
    dsimp only
    refine sg_isNode_t e1 h24 hj (br_f (by decide) ⟨vp_in_nI (by omega) (by omega), ?_⟩)
    rw [nI_clamp (by omega), (e3 j hj).1]
    exact br_f hk (h _ hu0)
theorem sg_a_fire_f {g : sg_G} {p q : Int32} (hp : p < 0 ∨ nI g.1 ≤ p) : sg_A g (fun post u => wpX_fire post u p q) 0 g := by
  obtain ⟨n, K, X, Y, Z, V, Q, T, H, P, O, c⟩ := g
  intro u hu post h
  obtain ⟨nc, ar, hv, ch, kt, ov, tc, lv, wt, a1, a2, a3, a4, a5, a6, a7, a8, a9, a10⟩ := u
  unfold wpX_fire
  dsimp only
  exact sg_isNode_f hu.1 hp (br_t rfl (h _ hu))
/-! level -/
theorem sg_a_level_t {g : sg_G} {p : Int32} (h0 : ¬ p < 0) (h1 : p ≤ 1) : sg_A g (fun post u => wpX_level post u p) 1 g := by
  obtain ⟨n, K, X, Y, Z, V, Q, T, H, P, O, c⟩ := g
  intro u hu post h
  obtain ⟨nc, ar, hv, ch, kt, ov, tc, lv, wt, a1, a2, a3, a4, a5, a6, a7, a8, a9, a10⟩ := u
  exact br_f h0 (br_t h1 (h _ hu))
theorem sg_a_level_f {g : sg_G} {p : Int32} (h0 : p < 0) : sg_A g (fun post u => wpX_level post u p) 0 g := by
  obtain ⟨n, K, X, Y, Z, V, Q, T, H, P, O, c⟩ := g
  intro u hu post h
  obtain ⟨nc, ar, hv, ch, kt, ov, tc, lv, wt, a1, a2, a3, a4, a5, a6, a7, a8, a9, a10⟩ := u
  exact br_t h0 (h _ hu)
/-! retract -/
theorem sg_retract_21 {n : Nat} {K X X' : Nat → Int32} {nc ar hv ch kt ov tc lv wt : Int32} {a1 a2 a3 a4 a5 a6 a7 a8 a9 a10 : Nat → Int32} {post : Int32 → St1 → Prop} (h24 : n < 24) (hn : nc = nI n)
    (hX : ∀ i, i < n → X' i = if K i = 4 ∧ X i = nI n then -1 else X i) (hK : ∀ i, i < n → a1 i = K i)
    (h : ∀ b2 : Nat → Int32, (∀ i, i < n → b2 i = X' i) → post (nI n) (nc, 0, hv &&& (((1 : Int32) <<< (nc &&& 31)) ^^^ (-1)), ch &&& (((1 : Int32) <<< (nc &&& 31)) ^^^ (-1)), kt &&& (((1 : Int32) <<< (nc &&& 31)) ^^^ (-1)), ov &&& (((1 : Int32) <<< (nc &&& 31)) ^^^ (-1)), tc, lv, wt, a1, b2, a3, a4, a5, a6, a7, a8, a9, a10)) :
    ∀ d j (b2 : Nat → Int32), j + d = n → (∀ i, i < j → b2 i = X' i) → (∀ i, j ≤ i → i < n → b2 i = X i) → wX_retract_21 post nc ar hv ch kt ov tc lv wt (d + 1) (nI j) a1 b2 a3 a4 a5 a6 a7 a8 a9 a10 := by
  intro d
  induction d with
  | zero =>
    intro j b2 hj i1 i2
    refine br_t (by rw [hn]; exact nI_le (by omega) (by omega)) ?_
    unfold wpX_forget
    dsimp only
    refine nm_e (nm_e (nm_e (nm_e (nm_e ?_))))
    have t := h b2 (fun i hi => i1 i (by omega))
    rw [← hn] at t
    exact t
  | succ d ih =>
    intro j b2 hj i1 i2
    refine br_f (by rw [hn]; exact nI_ge (by omega) (by omega)) ⟨vp_in_nI (by omega) (by omega), ?_⟩
    have hx := hX j (by omega)
    rw [nI_clamp (by omega), hK j (by omega), i2 j (by omega) (by omega), hn]
    refine br_c (fun e => ⟨vp_in_nI (by omega) (by omega), br_c (fun e2 => ⟨vp_in_nI (by omega) (by omega), nm_e (nm_r (nI_1 j) ?_)⟩) (fun e2 => nm_r (nI_1 j) ?_)⟩) (fun e => nm_r (nI_1 j) ?_)
    · rw [if_pos ⟨e, e2⟩] at hx
      rw [← hn]
      refine ih (j + 1) _ (by omega) (fun i hi => ?_) (fun i h1 h2 => ?_)
      · by_cases ei : i = j
        · subst ei
          rw [pk_us, hx]
        · rw [pk_un ei]
          exact i1 i (by omega)
      · rw [pk_un (by omega)]
        exact i2 i (by omega) h2
    · rw [if_neg (fun z => e2 z.2)] at hx
      rw [← hn]
      refine ih (j + 1) _ (by omega) (fun i hi => ?_) (fun i h1 h2 => i2 i (by omega) h2)
      by_cases ei : i = j
      · subst ei
        rw [hx]
        exact i2 i (by omega) (by omega)
      · exact i1 i (by omega)
    · rw [if_neg (fun z => e z.1)] at hx
      rw [← hn]
      refine ih (j + 1) _ (by omega) (fun i hi => ?_) (fun i h1 h2 => i2 i (by omega) h2)
      by_cases ei : i = j
      · subst ei
        rw [hx]
        exact i2 i (by omega) (by omega)
      · exact i1 i (by omega)
/-- the picture without its last node -/
def sg_cut (g : sg_G) : sg_G := match g with
  | (n, K, X, Y, Z, V, Q, T, H, P, O, c) => (n - 1, K, fun i => if K i = 4 ∧ X i = nI (n - 1) then -1 else X i, Y, Z, V, Q, T, H, P, O, c)
theorem sg_a_retract_0 {g : sg_G} (h0 : g.1 = 0) : sg_A g (fun post u => wpX_retract post u) (-1) g := by
  obtain ⟨n, K, X, Y, Z, V, Q, T, H, P, O, c⟩ := g
  intro u hu post h
  obtain ⟨nc, ar, hv, ch, kt, ov, tc, lv, wt, a1, a2, a3, a4, a5, a6, a7, a8, a9, a10⟩ := u
  unfold wpX_retract
  dsimp only
  have h0' : n = 0 := h0
  exact br_t (by rw [hu.1, h0']; rfl) (h _ hu)
theorem sg_a_retract_s {g : sg_G} (h24 : g.1 ≤ 24) (h0 : 0 < g.1) : sg_A g (fun post u => wpX_retract post u) (nI (g.1 - 1)) (sg_cut g) := by
  obtain ⟨n, K, X, Y, Z, V, Q, T, H, P, O, c⟩ := g
  have h24' : n ≤ 24 := h24
  have h0' : 0 < n := h0
  obtain ⟨m, rfl⟩ : ∃ m, n = m + 1 := ⟨n - 1, by omega⟩
  intro u hu post h
  obtain ⟨nc, ar, hv, ch, kt, ov, tc, lv, wt, a1, a2, a3, a4, a5, a6, a7, a8, a9, a10⟩ := u
  obtain ⟨e1, e2, e3, e4⟩ := hu
  have hh : ∀ v, sg_Rep (m, K, fun i => if K i = 4 ∧ X i = nI m then -1 else X i, Y, Z, V, Q, T, H, P, O, c) v → post (nI m) v := h
  unfold wpX_retract
  dsimp only
  refine br_f (by rw [e1]; exact nI_ne0 (by omega) (by omega)) (nm_r (e' := nI m) (by rw [e1]; exact nI_pred m) ⟨m + 1, ?_⟩)
  refine sg_retract_21 (n := m) (K := K) (X := X) (a2 := a2) (by omega) rfl (fun i hi => rfl) (fun i hi => (e3 i (by omega)).1) (fun b2 hb => hh _ ⟨rfl, e2, fun i hi => ?_, fun z => absurd rfl z⟩) m 0 a2 (by omega) (fun i hi => absurd hi (by omega)) (fun i _ hi => (e3 i (by omega)).2.1)
  obtain ⟨f1, f2, f3, f4, f5, f6, f7, f8, f9, f10⟩ := e3 i (by omega)
  refine ⟨f1, hb i hi, f3, f4, f5, f6, f7, ?_, ?_, ?_⟩
  · rw [sg_b_clr (by omega) (by omega), f8]
    simp [show ¬ i = m by omega]
  · rw [sg_b_clr (by omega) (by omega), f9]
    simp [show ¬ i = m by omega]
  · rw [sg_b_clr (by omega) (by omega), f10]
    simp [show ¬ i = m by omega]
theorem sg_wf_cut {g : sg_G} (w : sg_WF g) (h0 : 0 < g.1) : sg_WF (sg_cut g) := by
  obtain ⟨n, K, X, Y, Z, V, Q, T, H, P, O, c⟩ := g
  have h0' : 0 < n := h0
  obtain ⟨m, rfl⟩ : ∃ m, n = m + 1 := ⟨n - 1, by omega⟩
  obtain ⟨h24, w1, ⟨rk, B, w2⟩, w3⟩ := w
  show sg_wf m K (fun i => if K i = 4 ∧ X i = nI m then -1 else X i) Y Z V
  refine ⟨by omega, fun i hi => ?_, ⟨rk, B, fun i hi => ⟨(w2 i (by omega)).1, fun a ha => (w2 i (by omega)).2 a ?_⟩⟩, fun i hi hc => ?_⟩
  · obtain ⟨o1, o2, o3, o4⟩ := w1 i (by omega)
    dsimp only
    by_cases e : K i = 4 ∧ X i = nI m
    · rw [if_pos e]
      exact ⟨fun _ => Or.inl rfl, fun _ z => absurd e.1 z, o3, o4⟩
    · rw [if_neg e]
      refine ⟨fun h4 => ?_, o2, o3, o4⟩
      rcases o1 h4 with z | ⟨a, ha, z⟩
      · exact Or.inl z
      · refine Or.inr ⟨a, ?_, z⟩
        have hne : ¬ a = m := by
          intro hz
          subst hz
          exact e ⟨h4, z⟩
        omega
  · dsimp only at ha
    by_cases e : K i = 4 ∧ X i = nI m
    · rw [if_pos e, e.1] at ha
      obtain ⟨ha0, _, _, ha⟩ := ha
      rcases ha with ha | ha | ha
      · exact absurd ha.2.symm (sg_nm1 (by omega))
      · exact absurd ha.1 (by decide)
      · exact absurd ha.1 (by decide)
    · rw [if_neg e] at ha
      exact ha
  · have e : ¬ (K i = 4 ∧ X i = nI m) := by
      intro z
      rw [z.1] at hc
      exact absurd hc (by decide)
    dsimp only
    rw [if_neg e]
    exact w3 i (by omega) hc
theorem sg_a_retract {g : sg_G} (w : sg_WF g) : ∃ r h, sg_WF h ∧ ((r = -1 ∧ h.1 = g.1) ∨ (r = nI h.1)) ∧ sg_A g (fun post u => wpX_retract post u) r h := by
  have h24 : g.1 ≤ 24 := by
    obtain ⟨n, K, X, Y, Z, V, Q, T, H, P, O, c⟩ := g
    exact w.1
  rcases Nat.eq_zero_or_pos g.1 with h0 | h0
  · exact ⟨-1, g, w, Or.inl ⟨rfl, rfl⟩, sg_a_retract_0 h0⟩
  · refine ⟨nI (g.1 - 1), sg_cut g, sg_wf_cut w h0, Or.inr ?_, sg_a_retract_s h24 h0⟩
    obtain ⟨n, K, X, Y, Z, V, Q, T, H, P, O, c⟩ := g
    rfl
end
section
/-! node -/
theorem sg_comb_congr {k x y z : Int32} {f f' : Nat → Int32} (hx : f x.toNatClampNeg = f' x.toNatClampNeg) (hy : ¬ k = 14 → f y.toNatClampNeg = f' y.toNatClampNeg) (hz : ¬ k = 14 → ¬ k = 6 → f z.toNatClampNeg = f' z.toNatClampNeg) : sg_comb k x y z f = sg_comb k x y z f' := by
  unfold sg_comb
  by_cases h14 : k = 14
  · rw [if_pos h14, if_pos h14, hx]
  · rw [if_neg h14, if_neg h14, hx, hy h14]
    by_cases h6 : k = 6
    · rw [if_pos h6, if_pos h6]
    · rw [if_neg h6, if_neg h6, hz h14 h6]
theorem sg_cellValue {nc ar hv ch kt ov tc lv wt : Int32} {a1 a2 a3 a4 a5 a6 a7 a8 a9 a10 : Nat → Int32} {post : Int32 → Prop} {m : Nat} {p : Int32} {f : Nat → Int32} (hm : m < 24) (hf : f m = if p = 0 ∨ sg_bt ch m = false then a7 m else a8 m) (h : post (f m)) : wpX_cellValue post (nc, ar, hv, ch, kt, ov, tc, lv, wt, a1, a2, a3, a4, a5, a6, a7, a8, a9, a10) (nI m) p := by
  unfold wpX_cellValue
  dsimp only
  rw [nI_clamp (by omega)]
  rw [hf] at h
  refine br_c (fun e => ?_) (fun e => br_c (fun b => ?_) (fun b => ?_))
  · rw [if_pos (Or.inl e)] at h
    exact ⟨vp_in_nI hm (by omega), h⟩
  · rw [sg_bz (by omega)] at b
    rw [if_pos (Or.inr b)] at h
    exact ⟨vp_in_nI hm (by omega), h⟩
  · rw [sg_bnz (by omega)] at b
    rw [if_neg (fun z => by rcases z with z | z; exact e z; rw [b] at z; exact nomatch z)] at h
    exact ⟨vp_in_nI hm (by omega), h⟩
theorem sg_combined {nc ar hv ch kt ov tc lv wt : Int32} {a1 a2 a3 a4 a5 a6 a7 a8 a9 a10 : Nat → Int32} {post : Int32 → Prop} {i : Nat} {p : Int32} {f : Nat → Int32} (hi : i < 24) (hx : ∃ m, m < 24 ∧ a2 i = nI m) (hy : ¬ a1 i = 14 → ∃ m, m < 24 ∧ a3 i = nI m) (hz : ¬ a1 i = 14 → ¬ a1 i = 6 → ∃ m, m < 24 ∧ a4 i = nI m)
    (hf : ∀ m, m < 24 → f m = if p = 0 ∨ sg_bt ch m = false then a7 m else a8 m) (h : post (sg_comb (a1 i) (a2 i) (a3 i) (a4 i) f)) : wpX_combined post (nc, ar, hv, ch, kt, ov, tc, lv, wt, a1, a2, a3, a4, a5, a6, a7, a8, a9, a10) (nI i) p := by
  have hin : vp_in (nI i) 24 := vp_in_nI hi (by omega)
  unfold wpX_combined
  dsimp only
  rw [nI_clamp (show i < 2 ^ 31 by omega)]
  generalize a1 i = k at *
  generalize a2 i = x at *
  generalize a3 i = y at *
  generalize a4 i = z at *
  obtain ⟨mx, hmx, rfl⟩ := hx
  unfold sg_comb at h
  rw [nI_clamp (show mx < 2 ^ 31 by omega)] at h
  refine ⟨hin, nm_e ⟨hin, sg_cellValue hmx (hf mx hmx) (br_c (fun e => ⟨hin, hin, ?_⟩) (fun e => br_c (fun e6 => ⟨hin, ?_⟩) (fun e6 => br_c (fun c => ⟨hin, ?_⟩) (fun c => ⟨hin, ?_⟩))))⟩⟩
  · rw [if_pos e] at h
    exact h
  · obtain ⟨my, hmy, rfl⟩ := hy e
    rw [if_neg e, if_pos e6, nI_clamp (show my < 2 ^ 31 by omega)] at h
    exact sg_cellValue hmy (hf my hmy) h
  · obtain ⟨mz, hmz, rfl⟩ := hz e e6
    rw [if_neg e, if_neg e6, if_pos c, nI_clamp (show mz < 2 ^ 31 by omega)] at h
    exact sg_cellValue hmz (hf mz hmz) h
  · obtain ⟨my, hmy, rfl⟩ := hy e
    rw [if_neg e, if_neg e6, if_neg c, nI_clamp (show my < 2 ^ 31 by omega)] at h
    exact sg_cellValue hmy (hf my hmy) h
/-- the value of a new node -/
def sg_nv (k x y z : Int32) (V : Nat → Int32) : Int32 := if k = 4 then y else if sg_cb k = true then sg_comb k x y z V else 0
theorem sg_cb_kinds {k : Int32} (h : sg_cb k = true) (h4 : ¬ k = 4) : k = 6 ∨ k = 13 ∨ k = 14 := by
  unfold sg_cb at h
  simp [h4] at h
  rcases h with (h | h) | h
  · exact Or.inl h
  · exact Or.inr (Or.inl h)
  · exact Or.inr (Or.inr h)
/-- the operands of a cell that isn't a HOLD -/
theorem sg_ok_cell {n i : Nat} {K : Nat → Int32} {k x y z : Int32} (h : sg_ok n K i k x y z) (hk : k = 6 ∨ k = 13 ∨ k = 14) :
    (∃ m, m < i ∧ x = nI m ∧ sg_cb (K m) = true) ∧ (¬ k = 14 → ∃ m, m < i ∧ y = nI m ∧ sg_cb (K m) = true) ∧ (¬ k = 14 → ¬ k = 6 → ∃ m, m < i ∧ z = nI m ∧ sg_cb (K m) = true) := by
  obtain ⟨o1, o2, o3, o4⟩ := h
  refine ⟨?_, fun e => ?_, fun e e6 => ?_⟩
  · obtain ⟨m, h1, h2, h3⟩ := o2 (by rcases hk with e | e | e <;> rw [e] <;> decide) (by rcases hk with e | e | e <;> rw [e] <;> decide)
    exact ⟨m, h1, h2, h3 (by rcases hk with e | e | e <;> simp [e])⟩
  · have hk' : k = 6 ∨ k = 13 := by
      rcases hk with h | h | h
      · exact Or.inl h
      · exact Or.inr h
      · exact absurd h e
    obtain ⟨m, h1, h2, h3⟩ := o3 (by rcases hk' with e | e <;> simp [e])
    exact ⟨m, h1, h2, h3 (by rcases hk' with e | e <;> simp [e])⟩
  · have hk' : k = 13 := by
      rcases hk with h | h | h
      · exact absurd h e6
      · exact h
      · exact absurd h e
    obtain ⟨m, h1, h2, h3⟩ := o4 (Or.inr hk')
    exact ⟨m, h1, h2, h3 hk'⟩
theorem sg_comb_lt {n i : Nat} {K : Nat → Int32} {k x y z : Int32} {f f' : Nat → Int32} (h : sg_ok n K i k x y z) (hk : k = 6 ∨ k = 13 ∨ k = 14) (hi : i ≤ 24) (hf : ∀ m, m < i → f m = f' m) : sg_comb k x y z f = sg_comb k x y z f' := by
  obtain ⟨⟨mx, h1, rfl, _⟩, h2, h3⟩ := sg_ok_cell h hk
  refine sg_comb_congr ?_ (fun e => ?_) (fun e e6 => ?_)
  · rw [nI_clamp (by omega)]
    exact hf mx h1
  · obtain ⟨m, hm, rfl, _⟩ := h2 e
    rw [nI_clamp (by omega)]
    exact hf m hm
  · obtain ⟨m, hm, rfl, _⟩ := h3 e e6
    rw [nI_clamp (by omega)]
    exact hf m hm
theorem sg_node_118 {nc ar hv ch kt ov tc lv wt : Int32} {a1 a2 a3 a4 a5 a6 a7 a8 a9 a10 : Nat → Int32} {post : Int32 → St1 → Prop} {n : Nat} {K V : Nat → Int32} {k y : Int32} (h24 : n < 24) (hk : a1 n = k) (hok : sg_ok n K n (a1 n) (a2 n) (a3 n) (a4 n)) (hV : ∀ i, i < n → a7 i = V i)
    (h : ∀ b7 : Nat → Int32, b7 n = sg_nv k (a2 n) y (a4 n) V → (∀ i, i < n → b7 i = V i) → post (nI n) (nc, 0, hv &&& (((1 : Int32) <<< (nI n &&& 31)) ^^^ (-1)), ch &&& (((1 : Int32) <<< (nI n &&& 31)) ^^^ (-1)), kt &&& (((1 : Int32) <<< (nI n &&& 31)) ^^^ (-1)), ov &&& (((1 : Int32) <<< (nI n &&& 31)) ^^^ (-1)), tc, lv, wt, a1, a2, a3, a4, a5, a6, b7, a8, a9, a10))
    (hy : a3 n = y) (z0 : Int32) (hz0 : z0 = if k = 4 then y else 0) : wX_node_118 post k (nI n) z0 (nI n) nc ar hv ch kt ov tc lv wt a1 a2 a3 a4 a5 a6 a7 a8 a9 a10 := by
  have hin : vp_in (nI n) 24 := vp_in_nI (by omega) (by omega)
  unfold wX_node_118
  refine ⟨hin, nm_e ?_⟩
  rw [nI_clamp (by omega)]
  unfold wpX_forget
  dsimp only
  refine nm_e (nm_e (nm_e (nm_e (nm_e ?_))))
  refine sg_cellKind ?_
  unfold sg_nv at h
  cases hc : sg_cb k
  · refine br_t rfl (h _ ?_ (fun i hi => ?_))
    · have h4 : ¬ k = 4 := by
        intro z
        rw [z] at hc
        exact absurd hc (by decide)
      rw [pk_us, hz0, if_neg h4, if_neg h4, hc]
      rfl
    · rw [pk_un (by omega)]
      exact hV i hi
  · refine br_f (by decide) (br_c (fun h4 => h _ ?_ (fun i hi => ?_)) (fun h4 => ?_))
    · rw [pk_us, hz0, if_pos h4, if_pos h4]
    · rw [pk_un (by omega)]
      exact hV i hi
    · rw [hk] at hok
      have hk3 := sg_cb_kinds hc h4
      have hcg : sg_comb k (a2 n) (a3 n) (a4 n) (upd a7 n z0) = sg_comb k (a2 n) (a3 n) (a4 n) V := sg_comb_lt hok hk3 (by omega) (fun m hm => by rw [pk_un (by omega)]; exact hV m hm)
      obtain ⟨⟨mx, h1, hx1, _⟩, h2, h3⟩ := sg_ok_cell hok hk3
      refine sg_combined (f := upd a7 n z0) h24 ⟨mx, by omega, hx1⟩ (fun e => ?_) (fun e e6 => ?_) (fun m hm => by rw [if_pos (Or.inl rfl)]) ?_
      · rw [hk] at e
        obtain ⟨m, hm, e1, _⟩ := h2 e
        exact ⟨m, by omega, e1⟩
      · rw [hk] at e e6
        obtain ⟨m, hm, e1, _⟩ := h3 e e6
        exact ⟨m, by omega, e1⟩
      · refine ⟨hin, nm_e (h _ ?_ (fun i hi => ?_))⟩
        · rw [pk_us, if_neg h4, if_pos hc, hk, hcg, hy]
        · rw [pk_un (by omega), pk_un (by omega)]
          exact hV i hi
/-- the picture with one more node -/
def sg_add (g : sg_G) (k x y z : Int32) : sg_G := match g with
  | (n, K, X, Y, Z, V, Q, T, H, P, O, c) => (n + 1, upd K n k, upd X n x, upd Y n y, upd Z n z, upd V n (sg_nv k x y z V), upd Q n 0, upd T n 0, fun i => H i && !decide (i = n), fun i => P i && !decide (i = n), fun i => O i && !decide (i = n), c)
theorem sg_i8 : ∀ q, q < 15 → (nI q).toInt8.toInt32 = nI q := by decide +kernel
theorem sg_upd_eq {a b : Nat → Int32} {n : Nat} {v : Int32} (h : ∀ i, i < n → a i = b i) : ∀ i, i < n + 1 → upd a n v i = upd b n v i := by
  intro i hi
  by_cases e : i = n
  · subst e
    rw [pk_us, pk_us]
  · rw [pk_un e, pk_un e]
    exact h i (by omega)
theorem sg_a_node_ok {g : sg_G} {k x y z : Int32} {q : Nat} (hq : q < 15) (hk : k = nI q) (h24 : g.1 < 24) (hfit : sg_Q g (fun post u => wpX_operandsFit post u k x y z) 1) (hok : sg_ok g.1 g.2.1 g.1 k x y z) :
    sg_A g (fun post u => wpX_node post u k x y z) (nI g.1) (sg_add g k x y z) := by
  obtain ⟨n, K, X, Y, Z, V, Q, T, H, P, O, c⟩ := g
  have h24' : n < 24 := h24
  have hok' : sg_ok n K n k x y z := hok
  intro u hu post h
  obtain ⟨nc, ar, hv, ch, kt, ov, tc, lv, wt, a1, a2, a3, a4, a5, a6, a7, a8, a9, a10⟩ := u
  have hu0 := hu
  obtain ⟨e1, e2, e3, e4⟩ := hu
  subst e1
  have hh : ∀ v, sg_Rep (n + 1, upd K n k, upd X n x, upd Y n y, upd Z n z, upd V n (sg_nv k x y z V), upd Q n 0, upd T n 0, fun i => H i && !decide (i = n), fun i => P i && !decide (i = n), fun i => O i && !decide (i = n), c) v → post (nI n) v := h
  have hin : vp_in (nI n) 24 := vp_in_nI (by omega) (by omega)
  unfold wpX_node
  dsimp only
  have h8 : k.toInt8.toInt32 = k := by rw [hk]; exact sg_i8 q hq
  rw [nI_clamp (by omega), h8]
  refine br_t (nI_lt (b := 24) h24' (by decide)) (br_f (by rw [hk]; exact nI_pos (by omega)) (br_f (by rw [hk]; exact nI_nlt (a := 14) (by omega) (by decide)) (hfit _ hu0 _ (br_f (by decide) (nm_r (nI_1 n) ⟨hin, nm_e ⟨hin, nm_e ⟨hin, nm_e ⟨hin, nm_e ⟨hin, nm_e ⟨hin, nm_e ?_⟩⟩⟩⟩⟩⟩)))))
  have key : ∀ z0, z0 = (if k = 4 then y else 0) → wX_node_118 post k (nI n) z0 (nI n) (nI (n + 1)) ar hv ch kt ov tc lv wt (upd a1 n k) (upd a2 n x) (upd a3 n y) (upd a4 n z) a5 a6 a7 a8 (upd a9 n 0) (upd a10 n 0) := by
    intro z0 hz0
    refine sg_node_118 (K := K) (V := V) (y := y) h24' pk_us (by rw [pk_us, pk_us, pk_us, pk_us]; exact hok') (fun i hi => (e3 i hi).2.2.2.2.1) (fun b7 hb1 hb2 => hh _ ⟨rfl, e2, fun i hi => ?_, fun z => absurd rfl z⟩) pk_us z0 hz0
    rw [pk_us, pk_us] at hb1
    refine ⟨sg_upd_eq (fun i hi => (e3 i hi).1) i hi, sg_upd_eq (fun i hi => (e3 i hi).2.1) i hi, sg_upd_eq (fun i hi => (e3 i hi).2.2.1) i hi, sg_upd_eq (fun i hi => (e3 i hi).2.2.2.1) i hi, ?_, sg_upd_eq (fun i hi => (e3 i hi).2.2.2.2.2.1) i hi, sg_upd_eq (fun i hi => (e3 i hi).2.2.2.2.2.2.1) i hi, ?_, ?_, ?_⟩
    · by_cases e : i = n
      · subst e
        rw [pk_us, hb1]
      · rw [pk_un e]
        exact hb2 i (by omega)
    · rw [sg_b_clr (by omega) (by omega)]
      by_cases e : i = n
      · simp [e]
      · rw [(e3 i (by omega)).2.2.2.2.2.2.2.1]
    · rw [sg_b_clr (by omega) (by omega)]
      by_cases e : i = n
      · simp [e]
      · rw [(e3 i (by omega)).2.2.2.2.2.2.2.2.1]
    · rw [sg_b_clr (by omega) (by omega)]
      by_cases e : i = n
      · simp [e]
      · rw [(e3 i (by omega)).2.2.2.2.2.2.2.2.2]
  exact br_c (fun e => key y (by rw [if_pos e])) (fun e => key 0 (by rw [if_neg e]))
theorem sg_a_node_full {g : sg_G} {k x y z : Int32} (h24 : g.1 = 24) : sg_A g (fun post u => wpX_node post u k x y z) (-2) g := by
  obtain ⟨n, K, X, Y, Z, V, Q, T, H, P, O, c⟩ := g
  intro u hu post h
  obtain ⟨nc, ar, hv, ch, kt, ov, tc, lv, wt, a1, a2, a3, a4, a5, a6, a7, a8, a9, a10⟩ := u
  unfold wpX_node
  dsimp only
  have h24' : n = 24 := h24
  exact br_f (by rw [hu.1, h24']; decide) (h _ hu)
theorem sg_a_node_kind {g : sg_G} {k x y z : Int32} (h24 : g.1 < 24) (hk : k < 0 ∨ 14 < k) : sg_A g (fun post u => wpX_node post u k x y z) (-1) g := by
  obtain ⟨n, K, X, Y, Z, V, Q, T, H, P, O, c⟩ := g
  intro u hu post h
  obtain ⟨nc, ar, hv, ch, kt, ov, tc, lv, wt, a1, a2, a3, a4, a5, a6, a7, a8, a9, a10⟩ := u
  unfold wpX_node
  dsimp only
  refine br_t (by rw [hu.1]; exact nI_lt (b := 24) h24 (by decide)) (br_c (fun _ => h _ hu) (fun e => ?_))
  exact br_t (hk.resolve_left e) (h _ hu)
theorem sg_a_node_bad {g : sg_G} {k x y z : Int32} (h24 : g.1 < 24) (hfit : sg_Q g (fun post u => wpX_operandsFit post u k x y z) 0) : sg_A g (fun post u => wpX_node post u k x y z) (-1) g := by
  obtain ⟨n, K, X, Y, Z, V, Q, T, H, P, O, c⟩ := g
  intro u hu post h
  obtain ⟨nc, ar, hv, ch, kt, ov, tc, lv, wt, a1, a2, a3, a4, a5, a6, a7, a8, a9, a10⟩ := u
  unfold wpX_node
  dsimp only
  refine br_t (by rw [hu.1]; exact nI_lt (b := 24) h24 (by decide)) (br_c (fun _ => h _ hu) (fun e => br_c (fun _ => h _ hu) (fun e2 => ?_)))
  exact hfit _ hu _ (br_t rfl (h _ hu))
/-! do the operands fit -/
theorem sg_q_ev {n : Nat} {K X Y Z V Q T : Nat → Int32} {H P O : Nat → Bool} {c : Int32} (h24 : n ≤ 24) (p : Int32) :
    (∃ m, m < n ∧ p = nI m ∧ sg_Q (n, K, X, Y, Z, V, Q, T, H, P, O, c) (fun post u => wpX_isEvent post u p) 1) ∨ sg_Q (n, K, X, Y, Z, V, Q, T, H, P, O, c) (fun post u => wpX_isEvent post u p) 0 := by
  rcases sg_ix p h24 with hp | ⟨m, hm, rfl⟩
  · refine Or.inr (fun u hu post h => ?_)
    obtain ⟨nc, ar, hv, ch, kt, ov, tc, lv, wt, a1, a2, a3, a4, a5, a6, a7, a8, a9, a10⟩ := u
    exact sg_isEvent_f hu.1 hp h
  · cases hc : sg_cb (K m)
    · refine Or.inl ⟨m, hm, rfl, fun u hu post h => ?_⟩
      obtain ⟨nc, ar, hv, ch, kt, ov, tc, lv, wt, a1, a2, a3, a4, a5, a6, a7, a8, a9, a10⟩ := u
      obtain ⟨e1, e2, e3, e4⟩ := hu
      refine sg_isEvent_j e1 h24 hm ?_
      rw [(e3 m hm).1, hc]
      exact h
    · refine Or.inr (fun u hu post h => ?_)
      obtain ⟨nc, ar, hv, ch, kt, ov, tc, lv, wt, a1, a2, a3, a4, a5, a6, a7, a8, a9, a10⟩ := u
      obtain ⟨e1, e2, e3, e4⟩ := hu
      refine sg_isEvent_j e1 h24 hm ?_
      rw [(e3 m hm).1, hc]
      exact h
theorem sg_q_ce {n : Nat} {K X Y Z V Q T : Nat → Int32} {H P O : Nat → Bool} {c : Int32} (h24 : n ≤ 24) (p : Int32) :
    (∃ m, m < n ∧ p = nI m ∧ sg_cb (K m) = true ∧ sg_Q (n, K, X, Y, Z, V, Q, T, H, P, O, c) (fun post u => wpX_isCell post u p) 1) ∨ sg_Q (n, K, X, Y, Z, V, Q, T, H, P, O, c) (fun post u => wpX_isCell post u p) 0 := by
  rcases sg_ix p h24 with hp | ⟨m, hm, rfl⟩
  · refine Or.inr (fun u hu post h => ?_)
    obtain ⟨nc, ar, hv, ch, kt, ov, tc, lv, wt, a1, a2, a3, a4, a5, a6, a7, a8, a9, a10⟩ := u
    exact sg_isCell_f hu.1 hp h
  · cases hc : sg_cb (K m)
    · refine Or.inr (fun u hu post h => ?_)
      obtain ⟨nc, ar, hv, ch, kt, ov, tc, lv, wt, a1, a2, a3, a4, a5, a6, a7, a8, a9, a10⟩ := u
      obtain ⟨e1, e2, e3, e4⟩ := hu
      refine sg_isCell_j e1 h24 hm ?_
      rw [(e3 m hm).1, hc]
      exact h
    · refine Or.inl ⟨m, hm, rfl, hc, fun u hu post h => ?_⟩
      obtain ⟨nc, ar, hv, ch, kt, ov, tc, lv, wt, a1, a2, a3, a4, a5, a6, a7, a8, a9, a10⟩ := u
      obtain ⟨e1, e2, e3, e4⟩ := hu
      refine sg_isCell_j e1 h24 hm ?_
      rw [(e3 m hm).1, hc]
      exact h
theorem sg_nb0 : narrow .boolean (.int 0) = .int 0 := by rfl
theorem sg_nb1 : narrow .boolean (.int 1) = .int 1 := by rfl
/-- what is asked of the operands -/
def sg_fits (g : sg_G) (k x y z : Int32) : Prop := ∃ b, (b = 0 ∨ (b = 1 ∧ sg_ok g.1 g.2.1 g.1 k x y z)) ∧ sg_Q g (fun post u => wpX_operandsFit post u k x y z) b
theorem sg_fit_0 {g : sg_G} {x y z : Int32} : sg_Q g (fun post u => wpX_operandsFit post u 0 x y z) 1 := by
  obtain ⟨n, K, X, Y, Z, V, Q, T, H, P, O, c⟩ := g
  intro u hu post h
  obtain ⟨nc, ar, hv, ch, kt, ov, tc, lv, wt, a1, a2, a3, a4, a5, a6, a7, a8, a9, a10⟩ := u
  exact br_t rfl h
end
section
/-! the operands of a new node, kind by kind -/
theorem sg_fit {g : sg_G} (h24 : g.1 ≤ 24) (k x y z : Int32) : sg_fits g k x y z := by
  obtain ⟨n, K, X, Y, Z, V, Q, T, H, P, O, c⟩ := g
  have h24' : n ≤ 24 := h24
  by_cases k0 : k = 0
  · subst k0
    exact ⟨1, Or.inr ⟨rfl, fun z => absurd z (by decide), fun z => absurd rfl z, fun z => absurd z (by decide), fun z => absurd z (by decide)⟩, sg_fit_0⟩
  by_cases k4 : k = 4
  · subst k4
    by_cases hx : x = -1
    · refine ⟨1, Or.inr ⟨rfl, fun _ => Or.inl hx, fun _ z => absurd rfl z, fun z => absurd z (by decide), fun z => absurd z (by decide)⟩, fun u hu post h => ?_⟩
      obtain ⟨nc, ar, hv, ch, kt, ov, tc, lv, wt, a1, a2, a3, a4, a5, a6, a7, a8, a9, a10⟩ := u
      exact br_f (by decide) (br_t rfl (br_t hx h))
    · rcases sg_q_ev (K := K) (X := X) (Y := Y) (Z := Z) (V := V) (Q := Q) (T := T) (H := H) (P := P) (O := O) (c := c) h24' x with ⟨m, hm, e, q⟩ | q
      · refine ⟨1, Or.inr ⟨rfl, fun _ => Or.inr ⟨m, hm, e⟩, fun _ z => absurd rfl z, fun z => absurd z (by decide), fun z => absurd z (by decide)⟩, fun u hu post h => ?_⟩
        obtain ⟨nc, ar, hv, ch, kt, ov, tc, lv, wt, a1, a2, a3, a4, a5, a6, a7, a8, a9, a10⟩ := u
        exact br_f (by decide) (br_t rfl (br_f hx (q _ hu _ (br_f (by decide) h))))
      · refine ⟨0, Or.inl rfl, fun u hu post h => ?_⟩
        obtain ⟨nc, ar, hv, ch, kt, ov, tc, lv, wt, a1, a2, a3, a4, a5, a6, a7, a8, a9, a10⟩ := u
        exact br_f (by decide) (br_t rfl (br_f hx (q _ hu _ (br_t rfl h))))
  by_cases k3 : k = 3
  · subst k3
    rcases sg_q_ev (K := K) (X := X) (Y := Y) (Z := Z) (V := V) (Q := Q) (T := T) (H := H) (P := P) (O := O) (c := c) h24' x with ⟨m, hm, e, q⟩ | q
    · rcases sg_q_ev (K := K) (X := X) (Y := Y) (Z := Z) (V := V) (Q := Q) (T := T) (H := H) (P := P) (O := O) (c := c) h24' y with ⟨m2, hm2, e2, q2⟩ | q2
      · refine ⟨1, Or.inr ⟨rfl, fun z => absurd z (by decide), fun _ _ => ⟨m, hm, e, fun z => absurd z (by decide)⟩, fun _ => ⟨m2, hm2, e2, fun z => absurd z (by decide)⟩, fun z => absurd z (by decide)⟩, fun u hu post h => ?_⟩
        obtain ⟨nc, ar, hv, ch, kt, ov, tc, lv, wt, a1, a2, a3, a4, a5, a6, a7, a8, a9, a10⟩ := u
        exact br_f (by decide) (br_f (by decide) (br_t rfl (q _ hu _ (br_f (by decide) (q2 _ hu _ (br_f (by decide) h))))))
      · refine ⟨0, Or.inl rfl, fun u hu post h => ?_⟩
        obtain ⟨nc, ar, hv, ch, kt, ov, tc, lv, wt, a1, a2, a3, a4, a5, a6, a7, a8, a9, a10⟩ := u
        exact br_f (by decide) (br_f (by decide) (br_t rfl (q _ hu _ (br_f (by decide) (q2 _ hu _ (br_t rfl h))))))
    · refine ⟨0, Or.inl rfl, fun u hu post h => ?_⟩
      obtain ⟨nc, ar, hv, ch, kt, ov, tc, lv, wt, a1, a2, a3, a4, a5, a6, a7, a8, a9, a10⟩ := u
      exact br_f (by decide) (br_f (by decide) (br_t rfl (q _ hu _ (br_t rfl h))))
  have h57 : k = 5 ∨ k = 7 → sg_fits (n, K, X, Y, Z, V, Q, T, H, P, O, c) k x y z := by
    intro hk
    have rd : ∀ (nc ar hv ch kt ov tc lv wt : Int32) (a1 a2 a3 a4 a5 a6 a7 a8 a9 a10 : Nat → Int32) (post : Int32 → Prop), wX_operandsFit_68 post x y nc ar hv ch kt ov tc lv wt a1 a2 a3 a4 a5 a6 a7 a8 a9 a10 → wpX_operandsFit post (nc, ar, hv, ch, kt, ov, tc, lv, wt, a1, a2, a3, a4, a5, a6, a7, a8, a9, a10) k x y z := by
      intro nc ar hv ch kt ov tc lv wt a1 a2 a3 a4 a5 a6 a7 a8 a9 a10 post h
      refine br_f k0 (br_f k4 (br_f k3 ?_))
      rcases hk with e | e
      · exact br_t e h
      · exact br_f (by rw [e]; decide) (br_t e h)
    rcases sg_q_ev (K := K) (X := X) (Y := Y) (Z := Z) (V := V) (Q := Q) (T := T) (H := H) (P := P) (O := O) (c := c) h24' x with ⟨m, hm, e, q⟩ | q
    · rcases sg_q_ce (K := K) (X := X) (Y := Y) (Z := Z) (V := V) (Q := Q) (T := T) (H := H) (P := P) (O := O) (c := c) h24' y with ⟨m2, hm2, e2, hc2, q2⟩ | q2
      · refine ⟨1, Or.inr ⟨rfl, fun z => absurd z k4, fun _ _ => ⟨m, hm, e, fun z => absurd z (by rcases hk with e | e <;> rw [e] <;> decide)⟩, fun _ => ⟨m2, hm2, e2, fun z => hc2⟩, fun z => absurd z (by rcases hk with e | e <;> rw [e] <;> decide)⟩, fun u hu post h => ?_⟩
        obtain ⟨nc, ar, hv, ch, kt, ov, tc, lv, wt, a1, a2, a3, a4, a5, a6, a7, a8, a9, a10⟩ := u
        refine rd nc ar hv ch kt ov tc lv wt a1 a2 a3 a4 a5 a6 a7 a8 a9 a10 post ?_
        unfold wX_operandsFit_68
        exact q _ hu _ (br_f (by decide) (q2 _ hu _ (br_f (by decide) h)))
      · refine ⟨0, Or.inl rfl, fun u hu post h => ?_⟩
        obtain ⟨nc, ar, hv, ch, kt, ov, tc, lv, wt, a1, a2, a3, a4, a5, a6, a7, a8, a9, a10⟩ := u
        refine rd nc ar hv ch kt ov tc lv wt a1 a2 a3 a4 a5 a6 a7 a8 a9 a10 post ?_
        unfold wX_operandsFit_68
        exact q _ hu _ (br_f (by decide) (q2 _ hu _ (br_t rfl h)))
    · refine ⟨0, Or.inl rfl, fun u hu post h => ?_⟩
      obtain ⟨nc, ar, hv, ch, kt, ov, tc, lv, wt, a1, a2, a3, a4, a5, a6, a7, a8, a9, a10⟩ := u
      refine rd nc ar hv ch kt ov tc lv wt a1 a2 a3 a4 a5 a6 a7 a8 a9 a10 post ?_
      unfold wX_operandsFit_68
      exact q _ hu _ (br_t rfl h)
  by_cases k5 : k = 5
  · exact h57 (Or.inl k5)
  by_cases k7 : k = 7
  · exact h57 (Or.inr k7)
  by_cases k6 : k = 6
  · subst k6
    rcases sg_q_ce (K := K) (X := X) (Y := Y) (Z := Z) (V := V) (Q := Q) (T := T) (H := H) (P := P) (O := O) (c := c) h24' x with ⟨m, hm, e, hc, q⟩ | q
    · rcases sg_q_ce (K := K) (X := X) (Y := Y) (Z := Z) (V := V) (Q := Q) (T := T) (H := H) (P := P) (O := O) (c := c) h24' y with ⟨m2, hm2, e2, hc2, q2⟩ | q2
      · refine ⟨1, Or.inr ⟨rfl, fun z => absurd z (by decide), fun _ _ => ⟨m, hm, e, fun z => hc⟩, fun _ => ⟨m2, hm2, e2, fun z => hc2⟩, fun z => absurd z (by decide)⟩, fun u hu post h => ?_⟩
        obtain ⟨nc, ar, hv, ch, kt, ov, tc, lv, wt, a1, a2, a3, a4, a5, a6, a7, a8, a9, a10⟩ := u
        exact br_f (by decide) (br_f (by decide) (br_f (by decide) (br_f (by decide) (br_f (by decide) (br_t rfl (q _ hu _ (br_f (by decide) (q2 _ hu _ (br_f (by decide) h)))))))))
      · refine ⟨0, Or.inl rfl, fun u hu post h => ?_⟩
        obtain ⟨nc, ar, hv, ch, kt, ov, tc, lv, wt, a1, a2, a3, a4, a5, a6, a7, a8, a9, a10⟩ := u
        exact br_f (by decide) (br_f (by decide) (br_f (by decide) (br_f (by decide) (br_f (by decide) (br_t rfl (q _ hu _ (br_f (by decide) (q2 _ hu _ (br_t rfl h)))))))))
    · refine ⟨0, Or.inl rfl, fun u hu post h => ?_⟩
      obtain ⟨nc, ar, hv, ch, kt, ov, tc, lv, wt, a1, a2, a3, a4, a5, a6, a7, a8, a9, a10⟩ := u
      exact br_f (by decide) (br_f (by decide) (br_f (by decide) (br_f (by decide) (br_f (by decide) (br_t rfl (q _ hu _ (br_t rfl h)))))))
  by_cases k10 : k = 10
  · subst k10
    rcases sg_q_ce (K := K) (X := X) (Y := Y) (Z := Z) (V := V) (Q := Q) (T := T) (H := H) (P := P) (O := O) (c := c) h24' x with ⟨m, hm, e, hc, q⟩ | q
    · rcases sg_q_ev (K := K) (X := X) (Y := Y) (Z := Z) (V := V) (Q := Q) (T := T) (H := H) (P := P) (O := O) (c := c) h24' y with ⟨m2, hm2, e2, q2⟩ | q2
      · rcases sg_q_ev (K := K) (X := X) (Y := Y) (Z := Z) (V := V) (Q := Q) (T := T) (H := H) (P := P) (O := O) (c := c) h24' z with ⟨m3, hm3, e3, q3⟩ | q3
        · refine ⟨1, Or.inr ⟨rfl, fun z => absurd z (by decide), fun _ _ => ⟨m, hm, e, fun z => hc⟩, fun _ => ⟨m2, hm2, e2, fun z => absurd z (by decide)⟩, fun _ => ⟨m3, hm3, e3, fun z => absurd z (by decide)⟩⟩, fun u hu post h => ?_⟩
          obtain ⟨nc, ar, hv, ch, kt, ov, tc, lv, wt, a1, a2, a3, a4, a5, a6, a7, a8, a9, a10⟩ := u
          exact br_f (by decide) (br_f (by decide) (br_f (by decide) (br_f (by decide) (br_f (by decide) (br_f (by decide) (br_t rfl (q _ hu _ (br_f (by decide) (q2 _ hu _ (br_f (by decide) (q3 _ hu _ (br_f (by decide) h))))))))))))
        · refine ⟨0, Or.inl rfl, fun u hu post h => ?_⟩
          obtain ⟨nc, ar, hv, ch, kt, ov, tc, lv, wt, a1, a2, a3, a4, a5, a6, a7, a8, a9, a10⟩ := u
          exact br_f (by decide) (br_f (by decide) (br_f (by decide) (br_f (by decide) (br_f (by decide) (br_f (by decide) (br_t rfl (q _ hu _ (br_f (by decide) (q2 _ hu _ (br_f (by decide) (q3 _ hu _ (br_t rfl h))))))))))))
      · refine ⟨0, Or.inl rfl, fun u hu post h => ?_⟩
        obtain ⟨nc, ar, hv, ch, kt, ov, tc, lv, wt, a1, a2, a3, a4, a5, a6, a7, a8, a9, a10⟩ := u
        exact br_f (by decide) (br_f (by decide) (br_f (by decide) (br_f (by decide) (br_f (by decide) (br_f (by decide) (br_t rfl (q _ hu _ (br_f (by decide) (q2 _ hu _ (br_t rfl h))))))))))
    · refine ⟨0, Or.inl rfl, fun u hu post h => ?_⟩
      obtain ⟨nc, ar, hv, ch, kt, ov, tc, lv, wt, a1, a2, a3, a4, a5, a6, a7, a8, a9, a10⟩ := u
      exact br_f (by decide) (br_f (by decide) (br_f (by decide) (br_f (by decide) (br_f (by decide) (br_f (by decide) (br_t rfl (q _ hu _ (br_t rfl h))))))))
  by_cases k13 : k = 13
  · subst k13
    rcases sg_q_ce (K := K) (X := X) (Y := Y) (Z := Z) (V := V) (Q := Q) (T := T) (H := H) (P := P) (O := O) (c := c) h24' x with ⟨m, hm, e, hc, q⟩ | q
    · rcases sg_q_ce (K := K) (X := X) (Y := Y) (Z := Z) (V := V) (Q := Q) (T := T) (H := H) (P := P) (O := O) (c := c) h24' y with ⟨m2, hm2, e2, hc2, q2⟩ | q2
      · rcases sg_q_ce (K := K) (X := X) (Y := Y) (Z := Z) (V := V) (Q := Q) (T := T) (H := H) (P := P) (O := O) (c := c) h24' z with ⟨m3, hm3, e3, hc3, q3⟩ | q3
        · refine ⟨1, Or.inr ⟨rfl, fun z => absurd z (by decide), fun _ _ => ⟨m, hm, e, fun z => hc⟩, fun _ => ⟨m2, hm2, e2, fun z => hc2⟩, fun _ => ⟨m3, hm3, e3, fun z => hc3⟩⟩, fun u hu post h => ?_⟩
          obtain ⟨nc, ar, hv, ch, kt, ov, tc, lv, wt, a1, a2, a3, a4, a5, a6, a7, a8, a9, a10⟩ := u
          exact br_f (by decide) (br_f (by decide) (br_f (by decide) (br_f (by decide) (br_f (by decide) (br_f (by decide) (br_f (by decide) (br_t rfl (q _ hu _ (br_f (by decide) (q2 _ hu _ (br_f (by decide) (q3 _ hu _ (br_f (by decide) h)))))))))))))
        · refine ⟨0, Or.inl rfl, fun u hu post h => ?_⟩
          obtain ⟨nc, ar, hv, ch, kt, ov, tc, lv, wt, a1, a2, a3, a4, a5, a6, a7, a8, a9, a10⟩ := u
          exact br_f (by decide) (br_f (by decide) (br_f (by decide) (br_f (by decide) (br_f (by decide) (br_f (by decide) (br_f (by decide) (br_t rfl (q _ hu _ (br_f (by decide) (q2 _ hu _ (br_f (by decide) (q3 _ hu _ (br_t rfl h)))))))))))))
      · refine ⟨0, Or.inl rfl, fun u hu post h => ?_⟩
        obtain ⟨nc, ar, hv, ch, kt, ov, tc, lv, wt, a1, a2, a3, a4, a5, a6, a7, a8, a9, a10⟩ := u
        exact br_f (by decide) (br_f (by decide) (br_f (by decide) (br_f (by decide) (br_f (by decide) (br_f (by decide) (br_f (by decide) (br_t rfl (q _ hu _ (br_f (by decide) (q2 _ hu _ (br_t rfl h)))))))))))
    · refine ⟨0, Or.inl rfl, fun u hu post h => ?_⟩
      obtain ⟨nc, ar, hv, ch, kt, ov, tc, lv, wt, a1, a2, a3, a4, a5, a6, a7, a8, a9, a10⟩ := u
      exact br_f (by decide) (br_f (by decide) (br_f (by decide) (br_f (by decide) (br_f (by decide) (br_f (by decide) (br_f (by decide) (br_t rfl (q _ hu _ (br_t rfl h)))))))))
  have h914 : k = 9 ∨ k = 14 → sg_fits (n, K, X, Y, Z, V, Q, T, H, P, O, c) k x y z := by
    intro hk
    have rd : ∀ (nc ar hv ch kt ov tc lv wt : Int32) (a1 a2 a3 a4 a5 a6 a7 a8 a9 a10 : Nat → Int32) (post : Int32 → Prop), wX_operandsFit_204 post x nc ar hv ch kt ov tc lv wt a1 a2 a3 a4 a5 a6 a7 a8 a9 a10 → wpX_operandsFit post (nc, ar, hv, ch, kt, ov, tc, lv, wt, a1, a2, a3, a4, a5, a6, a7, a8, a9, a10) k x y z := by
      intro nc ar hv ch kt ov tc lv wt a1 a2 a3 a4 a5 a6 a7 a8 a9 a10 post h
      refine br_f k0 (br_f k4 (br_f k3 (br_f k5 (br_f k7 (br_f k6 (br_f k10 (br_f k13 ?_)))))))
      rcases hk with e | e
      · exact br_t e h
      · exact br_f (by rw [e]; decide) (br_t e h)
    rcases sg_q_ce (K := K) (X := X) (Y := Y) (Z := Z) (V := V) (Q := Q) (T := T) (H := H) (P := P) (O := O) (c := c) h24' x with ⟨m, hm, e, hc, q⟩ | q
    · refine ⟨1, Or.inr ⟨rfl, fun z => absurd z k4, fun _ _ => ⟨m, hm, e, fun z => hc⟩, fun z => absurd z (by rcases hk with e | e <;> rw [e] <;> decide), fun z => absurd z (by rcases hk with e | e <;> rw [e] <;> decide)⟩, fun u hu post h => ?_⟩
      obtain ⟨nc, ar, hv, ch, kt, ov, tc, lv, wt, a1, a2, a3, a4, a5, a6, a7, a8, a9, a10⟩ := u
      refine rd nc ar hv ch kt ov tc lv wt a1 a2 a3 a4 a5 a6 a7 a8 a9 a10 post ?_
      unfold wX_operandsFit_204
      exact q _ hu _ ⟨sg_nb1, h⟩
    · refine ⟨0, Or.inl rfl, fun u hu post h => ?_⟩
      obtain ⟨nc, ar, hv, ch, kt, ov, tc, lv, wt, a1, a2, a3, a4, a5, a6, a7, a8, a9, a10⟩ := u
      refine rd nc ar hv ch kt ov tc lv wt a1 a2 a3 a4 a5 a6 a7 a8 a9 a10 post ?_
      unfold wX_operandsFit_204
      exact q _ hu _ ⟨sg_nb0, h⟩
  by_cases k9 : k = 9
  · exact h914 (Or.inl k9)
  by_cases k14 : k = 14
  · exact h914 (Or.inr k14)
  rcases sg_q_ev (K := K) (X := X) (Y := Y) (Z := Z) (V := V) (Q := Q) (T := T) (H := H) (P := P) (O := O) (c := c) h24' x with ⟨m, hm, e, q⟩ | q
  · refine ⟨1, Or.inr ⟨rfl, fun z => absurd z k4, fun _ _ => ⟨m, hm, e, fun z => absurd z (by simp [k6, k13, k14, k10])⟩, fun z => absurd z (by simp [k3, k5, k6, k7, k10, k13]), fun z => absurd z (by simp [k10, k13])⟩, fun u hu post h => ?_⟩
    obtain ⟨nc, ar, hv, ch, kt, ov, tc, lv, wt, a1, a2, a3, a4, a5, a6, a7, a8, a9, a10⟩ := u
    exact br_f k0 (br_f k4 (br_f k3 (br_f k5 (br_f k7 (br_f k6 (br_f k10 (br_f k13 (br_f k9 (br_f k14 (q _ hu _ ⟨sg_nb1, h⟩))))))))))
  · refine ⟨0, Or.inl rfl, fun u hu post h => ?_⟩
    obtain ⟨nc, ar, hv, ch, kt, ov, tc, lv, wt, a1, a2, a3, a4, a5, a6, a7, a8, a9, a10⟩ := u
    exact br_f k0 (br_f k4 (br_f k3 (br_f k5 (br_f k7 (br_f k6 (br_f k10 (br_f k13 (br_f k9 (br_f k14 (q _ hu _ ⟨sg_nb0, h⟩))))))))))
/-! a new node keeps the graph well -/
theorem sg_part_le {n : Nat} {K : Nat → Int32} {i m : Nat} {k x y z : Int32} (h24 : n ≤ 24) (hi : i ≤ n) (hok : sg_ok n K i k x y z) (h : sg_part k x y z m) : m < n := by
  obtain ⟨o1, o2, o3, o4⟩ := hok
  obtain ⟨hm, e0, e11, h⟩ := h
  rcases h with ⟨e10, h⟩ | ⟨e, h⟩ | ⟨e, h⟩
  · by_cases e4 : k = 4
    · rcases o1 e4 with q | ⟨a, ha, q⟩
      · rw [h] at q
        exact absurd q (sg_nm1 (by omega))
      · rw [h] at q
        have := sg_inj (by omega) (by omega) q
        omega
    · obtain ⟨a, ha, q, _⟩ := o2 e0 e4
      rw [h] at q
      have := sg_inj (by omega) (by omega) q
      omega
  · obtain ⟨a, ha, q, _⟩ := o3 (by rcases e with e | e | e | e <;> simp [e])
    rw [h] at q
    have := sg_inj (by omega) (by omega) q
    omega
  · obtain ⟨a, ha, q, _⟩ := o4 e
    rw [h] at q
    have := sg_inj (by omega) (by omega) q
    omega
theorem sg_ok_mono {n i : Nat} {K : Nat → Int32} {k x y z k' : Int32} (hi : i ≤ n) (h : sg_ok n K i k x y z) : sg_ok (n + 1) (upd K n k') i k x y z := by
  obtain ⟨o1, o2, o3, o4⟩ := h
  refine ⟨fun e => ?_, fun e e' => ?_, fun e => ?_, fun e => ?_⟩
  · rcases o1 e with q | ⟨m, hm, q⟩
    · exact Or.inl q
    · exact Or.inr ⟨m, by omega, q⟩
  · obtain ⟨m, hm, q, hc⟩ := o2 e e'
    exact ⟨m, hm, q, fun z => by rw [pk_un (by omega)]; exact hc z⟩
  · obtain ⟨m, hm, q, hc⟩ := o3 e
    exact ⟨m, hm, q, fun z => by rw [pk_un (by omega)]; exact hc z⟩
  · obtain ⟨m, hm, q, hc⟩ := o4 e
    exact ⟨m, hm, q, fun z => by rw [pk_un (by omega)]; exact hc z⟩
theorem sg_wf_node {n : Nat} {K X Y Z V : Nat → Int32} {k x y z : Int32} (w : sg_wf n K X Y Z V) (h24 : n < 24) (hok : sg_ok n K n k x y z) :
    sg_wf (n + 1) (upd K n k) (upd X n x) (upd Y n y) (upd Z n z) (upd V n (sg_nv k x y z V)) := by
  obtain ⟨h24', w1, ⟨rk, B, w2⟩, w3⟩ := w
  refine ⟨by omega, fun i hi => ?_, ⟨fun i => if i = n then B else rk i, B + 1, fun i hi => ?_⟩, fun i hi hc => ?_⟩
  · by_cases e : i = n
    · subst e
      rw [pk_us, pk_us, pk_us, pk_us]
      exact sg_ok_mono (by omega) hok
    · rw [pk_un e, pk_un e, pk_un e, pk_un e]
      exact sg_ok_mono (by omega) (w1 i (by omega))
  · dsimp only
    by_cases e : i = n
    · subst e
      rw [pk_us, pk_us, pk_us, pk_us, if_pos rfl]
      refine ⟨by omega, fun m hm => ?_⟩
      have hl := sg_part_le (by omega) (Nat.le_refl _) hok hm
      rw [if_neg (by omega)]
      exact (w2 m hl).1
    · rw [pk_un e, pk_un e, pk_un e, pk_un e, if_neg e]
      have hw := w2 i (by omega)
      refine ⟨by omega, fun m hm => ?_⟩
      have hl := sg_part_le (by omega) (by omega) (w1 i (by omega)) hm
      rw [if_neg (by omega)]
      exact hw.2 m hm
  · by_cases e : i = n
    · subst e
      rw [pk_us] at hc
      rw [pk_us, pk_us, pk_us, pk_us, pk_us]
      have h4 : ¬ k = 4 := by rcases hc with e | e | e <;> rw [e] <;> decide
      have hcb : sg_cb k = true := by rcases hc with e | e | e <;> rw [e] <;> decide
      rw [show sg_nv k x y z V = sg_comb k x y z V by unfold sg_nv; rw [if_neg h4, if_pos hcb]]
      exact sg_comb_lt hok hc (by omega) (fun m hm => by rw [pk_un (by omega)])
    · rw [pk_un e] at hc
      rw [pk_un e, pk_un e, pk_un e, pk_un e, pk_un e, w3 i (by omega) hc]
      exact sg_comb_lt (w1 i (by omega)) hc (by omega) (fun m hm => by rw [pk_un (by omega)])
theorem sg_wf_add {g : sg_G} {k x y z : Int32} (w : sg_WF g) (h24 : g.1 < 24) (hok : sg_ok g.1 g.2.1 g.1 k x y z) : sg_WF (sg_add g k x y z) := by
  obtain ⟨n, K, X, Y, Z, V, Q, T, H, P, O, c⟩ := g
  exact sg_wf_node w h24 hok
theorem sg_WF_24 {g : sg_G} (w : sg_WF g) : g.1 ≤ 24 := by
  obtain ⟨n, K, X, Y, Z, V, Q, T, H, P, O, c⟩ := g
  exact w.1
theorem sg_add_1 (g : sg_G) (k x y z : Int32) : (sg_add g k x y z).1 = g.1 + 1 := by
  obtain ⟨n, K, X, Y, Z, V, Q, T, H, P, O, c⟩ := g
  rfl
theorem sg_a_node {g : sg_G} (w : sg_WF g) (k x y z : Int32) : ∃ r h, sg_WF h ∧ ((r < 0 ∧ h.1 = g.1) ∨ (r = nI g.1 ∧ h.1 = g.1 + 1)) ∧ sg_A g (fun post u => wpX_node post u k x y z) r h := by
  have h24 := sg_WF_24 w
  rcases Nat.lt_or_ge g.1 24 with hl | hl
  · by_cases hk0 : k < 0
    · exact ⟨-1, g, w, Or.inl ⟨by decide, rfl⟩, sg_a_node_kind hl (Or.inl hk0)⟩
    by_cases hk1 : 14 < k
    · exact ⟨-1, g, w, Or.inl ⟨by decide, rfl⟩, sg_a_node_kind hl (Or.inr hk1)⟩
    obtain ⟨q, hq, e⟩ : ∃ j : Nat, j ≤ 14 ∧ k = nI j := nI_of2 (M := 14) (by decide) hk0 (by
      rw [Int32.le_iff_toInt_le]
      rw [Int32.lt_iff_toInt_lt] at hk1
      omega)
    obtain ⟨b, hb, hf⟩ := sg_fit (g := g) h24 k x y z
    rcases hb with rfl | ⟨rfl, hok⟩
    · exact ⟨-1, g, w, Or.inl ⟨by decide, rfl⟩, sg_a_node_bad hl hf⟩
    · exact ⟨nI g.1, sg_add g k x y z, sg_wf_add w hl hok, Or.inr ⟨rfl, sg_add_1 g k x y z⟩, sg_a_node_ok (by omega) e hl hf hok⟩
  · exact ⟨-2, g, w, Or.inl ⟨by decide, rfl⟩, sg_a_node_full (by omega)⟩
end
section
/-! a rank below n -/
def sg_nlt (rk : Nat → Nat) (v : Nat) : Nat → Nat
  | 0 => 0
  | k + 1 => sg_nlt rk v k + if rk k < v then 1 else 0
theorem sg_nlt_le (rk : Nat → Nat) (v n : Nat) : sg_nlt rk v n ≤ n := by
  induction n with
  | zero => exact Nat.le_refl 0
  | succ n ih =>
    unfold sg_nlt
    split <;> omega
theorem sg_nlt_mono {rk : Nat → Nat} {v w : Nat} (h : v ≤ w) (n : Nat) : sg_nlt rk v n ≤ sg_nlt rk w n := by
  induction n with
  | zero => exact Nat.le_refl 0
  | succ n ih =>
    unfold sg_nlt
    split <;> split <;> omega
theorem sg_nlt_lt {rk : Nat → Nat} {v w m : Nat} (h1 : v ≤ rk m) (h2 : rk m < w) : ∀ n, m < n → sg_nlt rk v n < sg_nlt rk w n := by
  intro n
  induction n with
  | zero =>
    intro h
    exact absurd h (by omega)
  | succ n ih =>
    intro h
    unfold sg_nlt
    by_cases e : m = n
    · subst e
      have := sg_nlt_mono (rk := rk) (show v ≤ w by omega) m
      rw [if_neg (by omega), if_pos h2]
      omega
    · have := ih (by omega)
      split <;> split <;> omega
theorem sg_rank {n : Nat} {K X Y Z V : Nat → Int32} (w : sg_wf n K X Y Z V) : ∃ rk : Nat → Nat, ∀ i, i < n → rk i < n ∧ ∀ m, sg_part (K i) (X i) (Y i) (Z i) m → m < n ∧ rk m < rk i := by
  obtain ⟨h24, w1, ⟨rk, B, w2⟩, w3⟩ := w
  refine ⟨fun i => sg_nlt rk (rk i) n, fun i hi => ⟨?_, fun m hm => ?_⟩⟩
  · have h1 := sg_nlt_lt (rk := rk) (v := rk i) (w := rk i + 1) (m := i) (Nat.le_refl _) (by omega) n hi
    have h2 := sg_nlt_le rk (rk i + 1) n
    dsimp only
    omega
  · have hm2 := sg_part_lt h24 hi (w1 i hi) hm
    exact ⟨hm2, sg_nlt_lt (Nat.le_refl _) ((w2 i hi).2 m hm) n hm2⟩
/-! sums of heights -/
def sg_sum (h : Nat → Nat) : Nat → Nat
  | 0 => 0
  | k + 1 => sg_sum h k + h k
theorem sg_sum_eq {h h' : Nat → Nat} : ∀ n, (∀ i, i < n → h i = h' i) → sg_sum h n = sg_sum h' n := by
  intro n
  induction n with
  | zero =>
    intro _
    rfl
  | succ n ih =>
    intro e
    unfold sg_sum
    rw [ih (fun i hi => e i (by omega)), e n (by omega)]
theorem sg_sum_le {h h' : Nat → Nat} : ∀ n, (∀ i, i < n → h i ≤ h' i) → sg_sum h n ≤ sg_sum h' n := by
  intro n
  induction n with
  | zero =>
    intro _
    exact Nat.le_refl 0
  | succ n ih =>
    intro e
    unfold sg_sum
    have h1 := ih (fun i hi => e i (by omega))
    have h2 := e n (by omega)
    omega
theorem sg_sum_lt {h h' : Nat → Nat} {j : Nat} (hj : h j < h' j) : ∀ n, j < n → (∀ i, i < n → h i ≤ h' i) → sg_sum h n < sg_sum h' n := by
  intro n
  induction n with
  | zero =>
    intro z
    exact absurd z (by omega)
  | succ n ih =>
    intro z e
    unfold sg_sum
    have h2 := e n (by omega)
    by_cases ej : j = n
    · subst ej
      have h1 := sg_sum_le (h := h) (h' := h') j (fun i hi => e i (by omega))
      omega
    · have h1 := ih (by omega) (fun i hi => e i (by omega))
      omega
theorem sg_sum_b {h : Nat → Nat} : ∀ n, (∀ i, i < n → h i ≤ 24) → sg_sum h n ≤ 24 * n := by
  intro n
  induction n with
  | zero =>
    intro _
    exact Nat.le_refl 0
  | succ n ih =>
    intro e
    unfold sg_sum
    have h1 := ih (fun i hi => e i (by omega))
    have h2 := e n (by omega)
    omega
/-! raise -/
theorem sg_i8b : ∀ q, q < 25 → (nI q).toInt8.toInt32 = nI q := by decide +kernel
theorem sg_raise_11 {nc ar hv ch kt ov tc lv wt : Int32} {a1 a2 a3 a4 a5 a6 a7 a8 a9 a10 : Nat → Int32} {post : Int32 → St1 → Prop} {n i : Nat} {h : Nat → Nat} {r : Int32} {PP : Nat → Prop} (hn : nc = nI n) (h24 : n ≤ 24) (hi : i < n) (ha : ∀ m, m < n → a5 m = nI (h m) ∧ h m < 24)
    (hr : ∀ m, m < 32 → (sg_bt r m = true ↔ PP m))
    (hp : ∀ w, w ≤ 24 → (∀ m, m < n → PP m → h m + 1 ≤ w) → (w = 0 ∨ ∃ m, m < n ∧ PP m ∧ w = h m + 1) → post (if w ≤ h i then 0 else 1) (nc, ar, hv, ch, kt, ov, tc, lv, wt, a1, a2, a3, a4, upd a5 i (nI w), a6, a7, a8, a9, a10)) :
    ∀ d j w, j + d = n → w ≤ 24 → (∀ m, m < j → PP m → h m + 1 ≤ w) → (w = 0 ∨ ∃ m, m < n ∧ PP m ∧ w = h m + 1) → wX_raise_11 post (nI i) r nc ar hv ch kt ov tc lv wt a1 a2 a3 a4 a5 a6 a7 a8 a9 a10 (d + 1) (nI w) (nI j) := by
  have hin : vp_in (nI i) 24 := vp_in_nI (by omega) (by omega)
  intro d
  induction d with
  | zero =>
    intro j w hj hw i1 i2
    have t := hp w hw (fun m hm => i1 m (by omega)) i2
    refine br_t (by rw [hn]; exact nI_le (by omega) (by omega)) ⟨hin, ?_⟩
    obtain ⟨q1, q2⟩ := ha i hi
    rw [nI_clamp (by omega), q1]
    refine pk_le w (h i) (fun e => ?_) (fun e => ?_)
    · unfold wX_raise_71
      refine ⟨hin, nm_e ⟨sg_nb0, ?_⟩⟩
      rw [nI_clamp (by omega), sg_i8b w (by omega)]
      rw [if_pos e] at t
      exact t
    · unfold wX_raise_71
      refine ⟨hin, nm_e ⟨sg_nb1, ?_⟩⟩
      rw [nI_clamp (by omega), sg_i8b w (by omega)]
      rw [if_neg (by omega)] at t
      exact t
  | succ d ih =>
    intro j w hj hw i1 i2
    obtain ⟨q1, q2⟩ := ha j (by omega)
    refine br_f (by rw [hn]; exact nI_ge (by omega) (by omega)) (br_c (fun e => nm_r (nI_1 j) ?_) (fun e => ⟨vp_in_nI (by omega) (by omega), ?_⟩))
    · rw [sg_bz (by omega)] at e
      refine ih (j + 1) w (by omega) hw (fun m hm hP => ?_) i2
      by_cases em : m = j
      · subst em
        rw [(hr m (by omega)).mpr hP] at e
        exact nomatch e
      · exact i1 m (by omega) hP
    · rw [sg_bnz (by omega)] at e
      rw [nI_clamp (by omega), q1]
      refine pk_lt (h j) w (fun e2 => nm_r (nI_1 j) ?_) (fun e2 => ⟨vp_in_nI (by omega) (by omega), nm_r (nI_1 (h j)) (nm_r (nI_1 j) ?_)⟩)
      · refine ih (j + 1) w (by omega) hw (fun m hm hP => ?_) i2
        by_cases em : m = j
        · subst em
          omega
        · exact i1 m (by omega) hP
      · refine ih (j + 1) (h j + 1) (by omega) (by omega) (fun m hm hP => ?_) (Or.inr ⟨j, by omega, (hr j (by omega)).mp e, rfl⟩)
        by_cases em : m = j
        · subst em
          omega
        · have := i1 m (by omega) hP
          omega
theorem sg_raise {nc ar hv ch kt ov tc lv wt : Int32} {a1 a2 a3 a4 a5 a6 a7 a8 a9 a10 : Nat → Int32} {post : Int32 → St1 → Prop} {n i : Nat} {h : Nat → Nat} {K : Nat → Int32} (hn : nc = nI n) (h24 : n ≤ 24) (hi : i < n) (hok : sg_ok n K i (a1 i) (a2 i) (a3 i) (a4 i)) (ha : ∀ m, m < n → a5 m = nI (h m) ∧ h m < 24)
    (hp : ∀ w, w ≤ 24 → (∀ m, m < n → sg_part (a1 i) (a2 i) (a3 i) (a4 i) m → h m + 1 ≤ w) → (w = 0 ∨ ∃ m, m < n ∧ sg_part (a1 i) (a2 i) (a3 i) (a4 i) m ∧ w = h m + 1) → post (if w ≤ h i then 0 else 1) (nc, ar, hv, ch, kt, ov, tc, lv, wt, a1, a2, a3, a4, upd a5 i (nI w), a6, a7, a8, a9, a10)) :
    wpX_raise post (nc, ar, hv, ch, kt, ov, tc, lv, wt, a1, a2, a3, a4, a5, a6, a7, a8, a9, a10) (nI i) := by
  unfold wpX_raise
  dsimp only
  refine sg_partsOf (n := n) (K := K) h24 hi hok (fun r hr => ⟨n + 1, ?_⟩)
  exact sg_raise_11 hn h24 hi ha hr hp n 0 0 (by omega) (by omega) (fun m hm => absurd hm (by omega)) (Or.inl rfl)
/-! arrange -/
def sg_hok (n : Nat) (PP : Nat → Nat → Prop) (rk h : Nat → Nat) (a5 : Nat → Int32) : Prop := ∀ i, i < n → a5 i = nI (h i) ∧ h i ≤ rk i ∧ (h i = 0 ∨ ∃ m, m < n ∧ PP i m ∧ h i ≤ h m + 1)
theorem sg_arrange_53 {nc ar hv ch kt ov tc lv wt : Int32} {a1 a2 a3 a4 a5 a6 a7 a8 a9 a10 : Nat → Int32} {post : St1 → Prop} {n : Nat} {K X Y Z : Nat → Int32} {rk h0 : Nat → Nat}
    {J : Int32 → Int32 → Int32 → Int32 → Int32 → Int32 → Int32 → Int32 → Int32 → Int32 → (Nat → Int32) → (Nat → Int32) → (Nat → Int32) → (Nat → Int32) → (Nat → Int32) → (Nat → Int32) → (Nat → Int32) → (Nat → Int32) → (Nat → Int32) → (Nat → Int32) → Prop}
    (hn : nc = nI n) (h24 : n ≤ 24) (hok : ∀ i, i < n → sg_ok n K i (K i) (X i) (Y i) (Z i)) (he : ∀ i, i < n → a1 i = K i ∧ a2 i = X i ∧ a3 i = Y i ∧ a4 i = Z i)
    (hrk : ∀ i, i < n → rk i < n ∧ ∀ m, sg_part (K i) (X i) (Y i) (Z i) m → m < n ∧ rk m < rk i)
    (hJ : ∀ x1 h b5, sg_hok n (fun i m => sg_part (K i) (X i) (Y i) (Z i) m) rk h b5 → (x1 = 0 ∧ (∀ i, i < n → ∀ m, m < n → sg_part (K i) (X i) (Y i) (Z i) m → h m + 1 ≤ h i) ∨ x1 = 1 ∧ sg_sum h0 n < sg_sum h n) → J x1 nc ar hv ch kt ov tc lv wt a1 a2 a3 a4 b5 a6 a7 a8 a9 a10) :
    ∀ d j x1 h b5, j + d = n → sg_hok n (fun i m => sg_part (K i) (X i) (Y i) (Z i) m) rk h b5 →
      (x1 = 0 ∧ (∀ i, i < n → h i = h0 i) ∧ (∀ i, i < j → ∀ m, m < n → sg_part (K i) (X i) (Y i) (Z i) m → h m + 1 ≤ h i) ∨ x1 = 1 ∧ sg_sum h0 n < sg_sum h n) →
      wX_arrange_53 post J (d + 1) x1 (nI j) nc ar hv ch kt ov tc lv wt a1 a2 a3 a4 b5 a6 a7 a8 a9 a10 := by
  intro d
  induction d with
  | zero =>
    intro j x1 h b5 hj g1 g2
    refine br_t (by rw [hn]; exact nI_le (by omega) (by omega)) (hJ x1 h b5 g1 ?_)
    rcases g2 with ⟨e, _, g2⟩ | g2
    · exact Or.inl ⟨e, fun i hi => g2 i (by omega)⟩
    · exact Or.inr g2
  | succ d ih =>
    intro j x1 h b5 hj g1 g2
    have hjn : j < n := by omega
    obtain ⟨f1, f2, f3, f4⟩ := he j hjn
    refine br_f (by rw [hn]; exact nI_ge (by omega) (by omega)) ?_
    refine sg_raise (n := n) (h := h) (K := K) hn h24 hjn (by rw [f1, f2, f3, f4]; exact hok j hjn) (fun m hm => ⟨(g1 m hm).1, by have := (g1 m hm).2.1; have := (hrk m hm).1; omega⟩) (fun w hw w1 w2 => ?_)
    rw [f1, f2, f3, f4] at w1 w2
    obtain ⟨p1, p2, p3⟩ := g1 j hjn
    have hge : h j ≤ w := by
      rcases p3 with z | ⟨m, hm, hP, z⟩
      · omega
      · have := w1 m hm hP
        omega
    by_cases hw2 : w ≤ h j
    · have ew : w = h j := by omega
      rw [if_pos hw2]
      refine br_t rfl (nm_r (nI_1 j) ?_)
      have g1' : sg_hok n (fun i m => sg_part (K i) (X i) (Y i) (Z i) m) rk h (upd b5 j (nI w)) := by
        intro i hi
        obtain ⟨q1, q2, q3⟩ := g1 i hi
        refine ⟨?_, q2, q3⟩
        by_cases ei : i = j
        · subst ei
          rw [pk_us, ew]
        · rw [pk_un ei]
          exact q1
      refine ih (j + 1) x1 h _ (by omega) g1' ?_
      rcases g2 with ⟨e, g3, g4⟩ | g2
      · refine Or.inl ⟨e, g3, fun i hi m hm hP => ?_⟩
        by_cases ei : i = j
        · subst ei
          have := w1 m hm hP
          omega
        · exact g4 i (by omega) m hm hP
      · exact Or.inr g2
    · rw [if_neg hw2]
      refine br_f (by decide) (nm_r (nI_1 j) ?_)
      have hle : ∀ i, h i ≤ (if i = j then w else h i) := by
        intro i
        by_cases ei : i = j
        · rw [if_pos ei, ei]
          exact hge
        · rw [if_neg ei]
          exact Nat.le_refl _
      have g1' : sg_hok n (fun i m => sg_part (K i) (X i) (Y i) (Z i) m) rk (fun i => if i = j then w else h i) (upd b5 j (nI w)) := by
        intro i hi
        obtain ⟨q1, q2, q3⟩ := g1 i hi
        dsimp only
        by_cases ei : i = j
        · subst ei
          rw [pk_us, if_pos rfl]
          refine ⟨rfl, ?_, ?_⟩
          · rcases w2 with z | ⟨m, hm, hP, z⟩
            · omega
            · have h1 := (g1 m hm).2.1
              have h2 := ((hrk i hi).2 m hP).2
              omega
          · rcases w2 with z | ⟨m, hm, hP, z⟩
            · exact Or.inl z
            · refine Or.inr ⟨m, hm, hP, ?_⟩
              have := hle m
              omega
        · rw [pk_un ei, if_neg ei]
          refine ⟨q1, q2, ?_⟩
          rcases q3 with z | ⟨m, hm, hP, z⟩
          · exact Or.inl z
          · refine Or.inr ⟨m, hm, hP, ?_⟩
            have := hle m
            omega
      refine ih (j + 1) 1 (fun i => if i = j then w else h i) _ (by omega) g1' (Or.inr ⟨rfl, ?_⟩)
      have hlt : sg_sum h n < sg_sum (fun i => if i = j then w else h i) n := sg_sum_lt (j := j) (by rw [if_pos rfl]; omega) n hjn (fun i _ => hle i)
      rcases g2 with ⟨e, g3, g4⟩ | g2
      · rw [sg_sum_eq n g3] at hlt
        exact hlt
      · omega
/-! users -/
theorem sg_arrange_99 {nc ar hv ch kt ov tc lv wt : Int32} {a1 a2 a3 a4 a5 a6 a7 a8 a9 a10 : Nat → Int32} {post : St1 → Prop} {n i : Nat} {PP : Nat → Nat → Prop} {r : Int32}
    {J : Int32 → (Nat → Int32) → (Nat → Int32) → (Nat → Int32) → (Nat → Int32) → (Nat → Int32) → (Nat → Int32) → (Nat → Int32) → (Nat → Int32) → (Nat → Int32) → (Nat → Int32) → Prop}
    (hn : nc = nI n) (h24 : n ≤ 24) (hi : i < n) (hr : ∀ m, m < 32 → (sg_bt r m = true ↔ PP i m))
    (hJ : ∀ b6 : Nat → Int32, (∀ m, m < n → ∀ k, k < n → (sg_bt (b6 m) k = true ↔ k < i + 1 ∧ PP k m)) → J (nI (i + 1)) a1 a2 a3 a4 a5 b6 a7 a8 a9 a10) :
    ∀ d j (b6 : Nat → Int32), j + d = n → (∀ m, m < n → ∀ k, k < n → (sg_bt (b6 m) k = true ↔ (k < i ∨ (k = i ∧ m < j)) ∧ PP k m)) → wX_arrange_99 post J (nI i) r nc ar hv ch kt ov tc lv wt (d + 1) (nI j) a1 a2 a3 a4 a5 b6 a7 a8 a9 a10 := by
  intro d
  induction d with
  | zero =>
    intro j b6 hj g
    refine br_t (by rw [hn]; exact nI_le (by omega) (by omega)) (nm_r (nI_1 i) (hJ b6 (fun m hm k hk => ?_)))
    rw [g m hm k hk]
    constructor
    · rintro ⟨c, hP⟩
      exact ⟨by omega, hP⟩
    · rintro ⟨c, hP⟩
      exact ⟨by omega, hP⟩
  | succ d ih =>
    intro j b6 hj g
    refine br_f (by rw [hn]; exact nI_ge (by omega) (by omega)) (br_c (fun e => nm_r (nI_1 j) ?_) (fun e => ⟨vp_in_nI (by omega) (by omega), vp_in_nI (by omega) (by omega), nm_e (nm_r (nI_1 j) ?_)⟩))
    · rw [sg_bz (by omega)] at e
      refine ih (j + 1) b6 (by omega) (fun m hm k hk => ?_)
      rw [g m hm k hk]
      constructor
      · rintro ⟨c, hP⟩
        exact ⟨by omega, hP⟩
      · rintro ⟨c, hP⟩
        refine ⟨?_, hP⟩
        rcases c with c | ⟨c1, c2⟩
        · exact Or.inl c
        · by_cases em : m = j
          · subst em
            subst c1
            rw [(hr m (by omega)).mpr hP] at e
            exact nomatch e
          · exact Or.inr ⟨c1, by omega⟩
    · rw [sg_bnz (by omega)] at e
      rw [nI_clamp (by omega)]
      refine ih (j + 1) _ (by omega) (fun m hm k hk => ?_)
      by_cases em : m = j
      · subst em
        rw [pk_us, sg_b_set (by omega) (by omega), Bool.or_eq_true, g m hm k hk]
        constructor
        · rintro (⟨c, hP⟩ | c)
          · exact ⟨by omega, hP⟩
          · have ek : k = i := by simpa using c
            subst ek
            exact ⟨Or.inr ⟨rfl, by omega⟩, (hr m (by omega)).mp e⟩
        · rintro ⟨c, hP⟩
          rcases c with c | ⟨c1, c2⟩
          · exact Or.inl ⟨Or.inl c, hP⟩
          · exact Or.inr (by simp [c1])
      · rw [pk_un em, g m hm k hk]
        constructor
        · rintro ⟨c, hP⟩
          exact ⟨by omega, hP⟩
        · rintro ⟨c, hP⟩
          exact ⟨by omega, hP⟩
theorem sg_arrange_82 {nc ar hv ch kt ov tc lv wt : Int32} {a1 a2 a3 a4 a5 a6 a7 a8 a9 a10 : Nat → Int32} {post : St1 → Prop} {n : Nat} {K X Y Z : Nat → Int32}
    (hn : nc = nI n) (h24 : n ≤ 24) (hok : ∀ i, i < n → sg_ok n K i (K i) (X i) (Y i) (Z i)) (he : ∀ i, i < n → a1 i = K i ∧ a2 i = X i ∧ a3 i = Y i ∧ a4 i = Z i)
    (hp : ∀ b6 : Nat → Int32, (∀ m, m < n → ∀ k, k < n → (sg_bt (b6 m) k = true ↔ sg_part (K k) (X k) (Y k) (Z k) m)) → post (nc, ar, hv, ch, kt, ov, tc, lv, wt, a1, a2, a3, a4, a5, b6, a7, a8, a9, a10)) :
    ∀ d i (b6 : Nat → Int32), i + d = n → (∀ m, m < n → ∀ k, k < n → (sg_bt (b6 m) k = true ↔ k < i ∧ sg_part (K k) (X k) (Y k) (Z k) m)) → wX_arrange_82 post nc ar hv ch kt ov tc lv wt (d + 1) (nI i) a1 a2 a3 a4 a5 b6 a7 a8 a9 a10 := by
  intro d
  induction d with
  | zero =>
    intro i b6 hi g
    refine br_t (by rw [hn]; exact nI_le (by omega) (by omega)) (hp b6 (fun m hm k hk => ?_))
    rw [g m hm k hk]
    exact ⟨fun z => z.2, fun z => ⟨by omega, z⟩⟩
  | succ d ih =>
    intro i b6 hi g
    have hin : i < n := by omega
    obtain ⟨f1, f2, f3, f4⟩ := he i hin
    refine br_f (by rw [hn]; exact nI_ge (by omega) (by omega)) (sg_partsOf (n := n) (K := K) h24 hin (by rw [f1, f2, f3, f4]; exact hok i hin) (fun r hr => ⟨n + 1, ?_⟩))
    rw [f1, f2, f3, f4] at hr
    refine sg_arrange_99 (a6 := a6) (PP := fun k m => sg_part (K k) (X k) (Y k) (Z k) m) hn h24 hin hr (fun c6 hc => ih (i + 1) c6 (by omega) hc) n 0 b6 (by omega) (fun m hm k hk => ?_)
    rw [g m hm k hk]
    constructor
    · rintro ⟨c, hP⟩
      exact ⟨by omega, hP⟩
    · rintro ⟨c, hP⟩
      exact ⟨by omega, hP⟩
theorem sg_arrange_45 {nc ar hv ch kt ov tc lv wt : Int32} {a1 a2 a3 a4 a5 a6 a7 a8 a9 a10 : Nat → Int32} {post : St1 → Prop} {n : Nat} {K X Y Z : Nat → Int32} {rk : Nat → Nat}
    (hn : nc = nI n) (h24 : n ≤ 24) (hok : ∀ i, i < n → sg_ok n K i (K i) (X i) (Y i) (Z i)) (he : ∀ i, i < n → a1 i = K i ∧ a2 i = X i ∧ a3 i = Y i ∧ a4 i = Z i)
    (hrk : ∀ i, i < n → rk i < n ∧ ∀ m, sg_part (K i) (X i) (Y i) (Z i) m → m < n ∧ rk m < rk i) (h6 : ∀ m, m < n → a6 m = 0)
    (hp : ∀ b5 b6 : Nat → Int32, sg_arr n K X Y Z b5 b6 → post (nc, ar, hv, ch, kt, ov, tc, lv, wt, a1, a2, a3, a4, b5, b6, a7, a8, a9, a10)) :
    ∀ b h b5, 24 * n ≤ sg_sum h n + b → sg_hok n (fun i m => sg_part (K i) (X i) (Y i) (Z i) m) rk h b5 → wX_arrange_45 post (b + 2) 1 nc ar hv ch kt ov tc lv wt a1 a2 a3 a4 b5 a6 a7 a8 a9 a10 := by
  have done : ∀ k h b5, sg_hok n (fun i m => sg_part (K i) (X i) (Y i) (Z i) m) rk h b5 → (∀ i, i < n → ∀ m, m < n → sg_part (K i) (X i) (Y i) (Z i) m → h m + 1 ≤ h i) → wX_arrange_45 post (k + 1) 0 nc ar hv ch kt ov tc lv wt a1 a2 a3 a4 b5 a6 a7 a8 a9 a10 := by
    intro k h b5 g1 g2
    refine br_t rfl ⟨n + 1, ?_⟩
    refine sg_arrange_82 (a6 := a6) hn h24 hok he (fun b6 hb => hp b5 b6 ⟨h, fun i hi => ⟨(g1 i hi).1, ?_, fun m hm => ?_⟩, hb⟩) n 0 a6 (by omega) (fun m hm k hk => ?_)
    · have h1 := (g1 i hi).2.1
      have h2 := (hrk i hi).1
      omega
    · have h1 := g2 i hi m ((hrk i hi).2 m hm).1 hm
      omega
    · rw [h6 m hm, sg_b_0]
      exact ⟨fun q => (nomatch q), fun q => absurd q.1 (by omega)⟩
  intro b
  induction b with
  | zero =>
    intro h b5 hb g1
    refine br_f (by decide) ⟨n + 1, ?_⟩
    refine sg_arrange_53 (a5 := a5) (h0 := h) (rk := rk) hn h24 hok he hrk (fun x1 h' b5' g1' g2' => ?_) n 0 0 h b5 (by omega) g1 (Or.inl ⟨rfl, fun _ _ => rfl, fun i hi => absurd hi (by omega)⟩)
    rcases g2' with ⟨e, g⟩ | ⟨e, g⟩
    · rw [e]
      exact done 0 h' b5' g1' g
    · have h1 := sg_sum_b (h := h') n (fun i hi => by have := (g1' i hi).2.1; have := (hrk i hi).1; omega)
      omega
  | succ b ih =>
    intro h b5 hb g1
    refine br_f (by decide) ⟨n + 1, ?_⟩
    refine sg_arrange_53 (a5 := a5) (h0 := h) (rk := rk) hn h24 hok he hrk (fun x1 h' b5' g1' g2' => ?_) n 0 0 h b5 (by omega) g1 (Or.inl ⟨rfl, fun _ _ => rfl, fun i hi => absurd hi (by omega)⟩)
    rcases g2' with ⟨e, g⟩ | ⟨e, g⟩
    · rw [e]
      exact done (b + 1) h' b5' g1' g
    · rw [e]
      exact ih h' b5' (by omega) g1'
theorem sg_arrange_15 {nc ar hv ch kt ov tc lv wt : Int32} {a1 a2 a3 a4 a5 a6 a7 a8 a9 a10 : Nat → Int32} {post : St1 → Prop} {n : Nat} (hn : nc = nI n) (h24 : n ≤ 24)
    (hp : ∀ b5 b6 : Nat → Int32, (∀ i, i < n → b5 i = 0 ∧ b6 i = 0) → ∃ fu, wX_arrange_45 post fu 1 nc ar hv ch kt ov tc lv wt a1 a2 a3 a4 b5 b6 a7 a8 a9 a10) :
    ∀ d j (b5 b6 : Nat → Int32), j + d = n → (∀ i, i < j → b5 i = 0 ∧ b6 i = 0) → wX_arrange_15 post nc ar hv ch kt ov tc lv wt (d + 1) (nI j) a1 a2 a3 a4 b5 b6 a7 a8 a9 a10 := by
  intro d
  induction d with
  | zero =>
    intro j b5 b6 hj g
    exact br_t (by rw [hn]; exact nI_le (by omega) (by omega)) (hp b5 b6 (fun i hi => g i (by omega)))
  | succ d ih =>
    intro j b5 b6 hj g
    refine br_f (by rw [hn]; exact nI_ge (by omega) (by omega)) ⟨vp_in_nI (by omega) (by omega), nm_e ⟨vp_in_nI (by omega) (by omega), nm_e (nm_r (nI_1 j) ?_)⟩⟩
    rw [nI_clamp (by omega)]
    refine ih (j + 1) _ _ (by omega) (fun i hi => ?_)
    by_cases e : i = j
    · subst e
      rw [pk_us, pk_us]
      exact ⟨rfl, rfl⟩
    · rw [pk_un e, pk_un e]
      exact g i (by omega)
theorem sg_arrange {nc ar hv ch kt ov tc lv wt : Int32} {a1 a2 a3 a4 a5 a6 a7 a8 a9 a10 : Nat → Int32} {post : St1 → Prop} {n : Nat} {K X Y Z V : Nat → Int32} (w : sg_wf n K X Y Z V) (hn : nc = nI n) (he : ∀ i, i < n → a1 i = K i ∧ a2 i = X i ∧ a3 i = Y i ∧ a4 i = Z i)
    (ha : ¬ ar = 0 → sg_arr n K X Y Z a5 a6)
    (hp : ∀ (br : Int32) (b5 b6 : Nat → Int32), ¬ br = 0 → sg_arr n K X Y Z b5 b6 → post (nc, br, hv, ch, kt, ov, tc, lv, wt, a1, a2, a3, a4, b5, b6, a7, a8, a9, a10)) : wpX_arrange post (nc, ar, hv, ch, kt, ov, tc, lv, wt, a1, a2, a3, a4, a5, a6, a7, a8, a9, a10) := by
  obtain ⟨rk, hrk⟩ := sg_rank w
  obtain ⟨h24, hok, _, _⟩ := w
  refine br_c (fun e => ⟨n + 1, ?_⟩) (fun e => hp ar a5 a6 e (ha e))
  refine sg_arrange_15 (a5 := a5) (a6 := a6) hn h24 (fun b5 b6 hb => ⟨24 * n + 2, ?_⟩) n 0 a5 a6 (by omega) (fun i hi => absurd hi (by omega))
  refine sg_arrange_45 (a5 := b5) (rk := rk) hn h24 hok he hrk (fun m hm => (hb m hm).2) (fun c5 c6 hc => hp 1 c5 c6 (by decide) hc) (24 * n) (fun _ => 0) b5 (by omega) (fun i hi => ⟨(hb i hi).1, Nat.zero_le _, Or.inl rfl⟩)
end
section
/-! what one look at a node finds -/
def sg_ev (k x y z : Int32) (hs cd : Nat → Bool) (v nx : Nat → Int32) (pt ov : Bool) (q : Int32) : Option Int32 :=
  if k = 0 ∨ k = 11 then (if pt = true then some q else none)
  else if k = 9 then (if cd x.toNatClampNeg = true then some (nx x.toNatClampNeg) else none)
  else if k = 10 then (if v x.toNatClampNeg = 0 then (if hs z.toNatClampNeg = true then some (v z.toNatClampNeg) else none) else (if hs y.toNatClampNeg = true then some (v y.toNatClampNeg) else none))
  else if k = 3 then (if hs x.toNatClampNeg = true then (if hs y.toNatClampNeg = true then some (v x.toNatClampNeg + v y.toNatClampNeg) else some (v x.toNatClampNeg)) else if hs y.toNatClampNeg = true then some (v y.toNatClampNeg) else none)
  else if hs x.toNatClampNeg = true then
    (if k = 1 then some (v x.toNatClampNeg * y + z)
    else if k = 2 then (if v x.toNatClampNeg < y then none else some (v x.toNatClampNeg))
    else if k = 5 then some (v x.toNatClampNeg + v y.toNatClampNeg)
    else if k = 7 then (if v y.toNatClampNeg = 0 then none else some (v x.toNatClampNeg))
    else if k = 8 then some (q + v x.toNatClampNeg)
    else if ov = true then none else some (v x.toNatClampNeg))
  else none
def sg_nxt (i : Nat) (k x y z : Int32) (hs cd : Nat → Bool) (v nx : Nat → Int32) : Int32 :=
  if k = 4 then (if x < 0 then v i else if hs x.toNatClampNeg = true then v x.toNatClampNeg else v i) else sg_comb k x y z (fun m => if cd m = true then nx m else v m)
def sg_ce (i : Nat) (k x y z : Int32) (hs cd : Nat → Bool) (v nx : Nat → Int32) : Option Int32 :=
  if sg_nxt i k x y z hs cd v nx = v i then none else some (sg_nxt i k x y z hs cd v nx)
theorem sg_give {nc ar hv ch kt ov tc lv wt : Int32} {a1 a2 a3 a4 a5 a6 a7 a8 a9 a10 : Nat → Int32} {post : Int32 → St1 → Prop} {i : Nat} {v : Int32} (hi : i < 24) (h : post 1 (nc, ar, hv ||| ((1 : Int32) <<< (nI i &&& 31)), ch, kt, ov, tc, lv, wt, a1, a2, a3, a4, a5, a6, upd a7 i v, a8, a9, a10)) : wpX_give post (nc, ar, hv, ch, kt, ov, tc, lv, wt, a1, a2, a3, a4, a5, a6, a7, a8, a9, a10) (nI i) v := by
  refine nm_e ⟨vp_in_nI hi (by omega), nm_e ?_⟩
  rw [nI_clamp (by omega)]
  exact h
theorem sg_merge_35 {nc ar hv ch kt ov tc lv wt : Int32} {a1 a2 a3 a4 a5 a6 a7 a8 a9 a10 : Nat → Int32} {post : Int32 → St1 → Prop} {i mx my : Nat} (hi : i < 24) (hx : mx < 24) (hy : my < 24) (hb : sg_bt hv mx = false ∨ sg_bt hv my = false)
    (h0 : sg_bt hv mx = false → sg_bt hv my = false → post 0 (nc, ar, hv, ch, kt, ov, tc, lv, wt, a1, a2, a3, a4, a5, a6, a7, a8, a9, a10))
    (h1 : ∀ v, (sg_bt hv mx = true ∧ v = a7 mx) ∨ (sg_bt hv mx = false ∧ sg_bt hv my = true ∧ v = a7 my) → post 1 (nc, ar, hv ||| ((1 : Int32) <<< (nI i &&& 31)), ch, kt, ov, tc, lv, wt, a1, a2, a3, a4, a5, a6, upd a7 i v, a8, a9, a10)) : wX_merge_35 post (nI i) (nI mx) (nI my) nc ar hv ch kt ov tc lv wt a1 a2 a3 a4 a5 a6 a7 a8 a9 a10 := by
  unfold wX_merge_35
  refine sg_has hx ?_
  cases bx : sg_bt hv mx
  · refine br_t rfl (sg_has hy ?_)
    cases bY : sg_bt hv my
    · exact br_t rfl (h0 bx bY)
    · refine br_f (by decide) ⟨vp_in_nI hy (by omega), sg_give hi (br_f (by decide) (h1 _ (Or.inr ⟨bx, bY, ?_⟩)))⟩
      rw [nI_clamp (by omega)]
  · refine br_f (by decide) ⟨vp_in_nI hx (by omega), sg_give hi ⟨sg_nb1, h1 _ (Or.inl ⟨bx, ?_⟩)⟩⟩
    rw [nI_clamp (by omega)]
theorem sg_merge {nc ar hv ch kt ov tc lv wt : Int32} {a1 a2 a3 a4 a5 a6 a7 a8 a9 a10 : Nat → Int32} {post : Int32 → St1 → Prop} {i mx my : Nat} (hi : i < 24) (hx : mx < 24) (hy : my < 24)
    (h0 : sg_bt hv mx = false → sg_bt hv my = false → post 0 (nc, ar, hv, ch, kt, ov, tc, lv, wt, a1, a2, a3, a4, a5, a6, a7, a8, a9, a10))
    (h1 : ∀ v, (sg_bt hv mx = true ∧ sg_bt hv my = true ∧ v = a7 mx + a7 my) ∨ (sg_bt hv mx = true ∧ sg_bt hv my = false ∧ v = a7 mx) ∨ (sg_bt hv mx = false ∧ sg_bt hv my = true ∧ v = a7 my) → post 1 (nc, ar, hv ||| ((1 : Int32) <<< (nI i &&& 31)), ch, kt, ov, tc, lv, wt, a1, a2, a3, a4, a5, a6, upd a7 i v, a8, a9, a10)) : wpX_merge post (nc, ar, hv, ch, kt, ov, tc, lv, wt, a1, a2, a3, a4, a5, a6, a7, a8, a9, a10) (nI i) (nI mx) (nI my) := by
  unfold wpX_merge
  dsimp only
  refine sg_has hx ?_
  cases bx : sg_bt hv mx
  · refine br_t rfl (sg_merge_35 hi hx hy (Or.inl bx) h0 (fun v hv' => h1 v ?_))
    rcases hv' with ⟨e, _⟩ | ⟨_, e, e2⟩
    · rw [bx] at e
      exact nomatch e
    · exact Or.inr (Or.inr ⟨bx, e, e2⟩)
  · refine br_f (by decide) (sg_has hy ?_)
    cases bY : sg_bt hv my
    · refine br_t rfl (sg_merge_35 hi hx hy (Or.inr bY) h0 (fun v hv' => h1 v ?_))
      rcases hv' with ⟨_, e⟩ | ⟨e, _, _⟩
      · exact Or.inr (Or.inl ⟨bx, bY, e⟩)
      · rw [bx] at e
        exact nomatch e
    · refine br_f (by decide) ⟨vp_in_nI hx (by omega), vp_in_nI hy (by omega), sg_give hi ⟨sg_nb1, h1 _ (Or.inl ⟨bx, bY, ?_⟩)⟩⟩
      rw [nI_clamp (by omega), nI_clamp (by omega)]
theorem sg_lookAtEvent_24 {nc ar hv ch kt ov tc lv wt : Int32} {a1 a2 a3 a4 a5 a6 a7 a8 a9 a10 : Nat → Int32} {post : Int32 → St1 → Prop} {i : Nat} (hi : i < 24) (h0 : sg_bt kt i = false → post 0 (nc, ar, hv, ch, kt, ov, tc, lv, wt, a1, a2, a3, a4, a5, a6, a7, a8, a9, a10)) (h1 : sg_bt kt i = true → post 1 (nc, ar, hv ||| ((1 : Int32) <<< (nI i &&& 31)), ch, kt, ov, tc, lv, wt, a1, a2, a3, a4, a5, a6, upd a7 i (a9 i), a8, a9, a10)) : wX_lookAtEvent_24 post (nI i) nc ar hv ch kt ov tc lv wt a1 a2 a3 a4 a5 a6 a7 a8 a9 a10 := by
  unfold wX_lookAtEvent_24
  refine br_c (fun b => ?_) (fun b => ⟨vp_in_nI hi (by omega), ?_⟩)
  · rw [sg_bz (by omega)] at b
    exact h0 b
  · rw [sg_bnz (by omega)] at b
    rw [nI_clamp (by omega)]
    exact sg_give hi (br_f (by decide) (h1 b))
theorem sg_lookAtEvent_122 {nc ar hv ch kt ov tc lv wt : Int32} {a1 a2 a3 a4 a5 a6 a7 a8 a9 a10 : Nat → Int32} {post : Int32 → St1 → Prop} {i m : Nat} (hi : i < 24) (hm : m < 24) (h0 : sg_bt hv m = false → post 0 (nc, ar, hv, ch, kt, ov, tc, lv, wt, a1, a2, a3, a4, a5, a6, a7, a8, a9, a10)) (h1 : sg_bt hv m = true → post 1 (nc, ar, hv ||| ((1 : Int32) <<< (nI i &&& 31)), ch, kt, ov, tc, lv, wt, a1, a2, a3, a4, a5, a6, upd a7 i (a7 m), a8, a9, a10)) : wX_lookAtEvent_122 post (nI i) (nI m) nc ar hv ch kt ov tc lv wt a1 a2 a3 a4 a5 a6 a7 a8 a9 a10 := by
  unfold wX_lookAtEvent_122
  refine sg_has hm ?_
  cases b : sg_bt hv m
  · exact br_t rfl (h0 b)
  · refine br_f (by decide) ⟨vp_in_nI hm (by omega), ?_⟩
    rw [nI_clamp (by omega)]
    exact sg_give hi (br_f (by decide) (h1 b))
theorem sg_lookAtEvent {nc ar hv ch kt ov tc lv wt : Int32} {a1 a2 a3 a4 a5 a6 a7 a8 a9 a10 : Nat → Int32} {post : Int32 → St1 → Prop} {n i : Nat} {K : Nat → Int32} (h24 : n ≤ 24) (hi : i < n) (hok : sg_ok n K i (a1 i) (a2 i) (a3 i) (a4 i)) (h4 : ¬ a1 i = 4)
    (h0 : sg_ev (a1 i) (a2 i) (a3 i) (a4 i) (sg_bt hv) (sg_bt ch) a7 a8 (sg_bt kt i) (sg_bt ov i) (a9 i) = none → post 0 (nc, ar, hv, ch, kt, ov, tc, lv, wt, a1, a2, a3, a4, a5, a6, a7, a8, a9, a10))
    (h1 : ∀ v, sg_ev (a1 i) (a2 i) (a3 i) (a4 i) (sg_bt hv) (sg_bt ch) a7 a8 (sg_bt kt i) (sg_bt ov i) (a9 i) = some v → post 1 (nc, ar, hv ||| ((1 : Int32) <<< (nI i &&& 31)), ch, kt, ov, tc, lv, wt, a1, a2, a3, a4, a5, a6, upd a7 i v, a8, a9, a10)) : wpX_lookAtEvent post (nc, ar, hv, ch, kt, ov, tc, lv, wt, a1, a2, a3, a4, a5, a6, a7, a8, a9, a10) (nI i) := by
  have hin : vp_in (nI i) 24 := vp_in_nI (by omega) (by omega)
  have hi24 : i < 24 := by omega
  obtain ⟨o1, o2, o3, o4⟩ := hok
  unfold wpX_lookAtEvent
  dsimp only
  rw [nI_clamp (show i < 2 ^ 31 by omega)]
  generalize a1 i = k at *
  generalize a2 i = x at *
  generalize a3 i = y at *
  generalize a4 i = z at *
  refine ⟨hin, nm_e ⟨hin, nm_e ?_⟩⟩
  refine br_c (fun e => ?_) (fun e0 => ?_)
  · subst e
    exact sg_lookAtEvent_24 hi24 (fun b => h0 (by simp [sg_ev, b])) (fun b => h1 _ (by simp [sg_ev, b]))
  refine br_c (fun e => ?_) (fun e11 => ?_)
  · subst e
    exact sg_lookAtEvent_24 hi24 (fun b => h0 (by simp [sg_ev, b])) (fun b => h1 _ (by simp [sg_ev, b]))
  obtain ⟨mx, hmx, rfl, _⟩ := o2 e0 h4
  have cx : (nI mx).toNatClampNeg = mx := nI_clamp (by omega)
  have inx : vp_in (nI mx) 24 := vp_in_nI (by omega) (by omega)
  rw [cx]
  refine br_c (fun e => ?_) (fun e9 => ?_)
  · subst e
    refine br_c (fun b => ?_) (fun b => ⟨inx, ?_⟩)
    · rw [sg_bz (by omega)] at b
      exact h0 (by simp [sg_ev, cx, b])
    · rw [sg_bnz (by omega)] at b
      exact sg_give hi24 (br_f (by decide) (h1 _ (by simp [sg_ev, cx, b])))
  refine br_c (fun e => ?_) (fun e10 => ?_)
  · subst e
    obtain ⟨my, hmy, rfl, _⟩ := o3 (by simp)
    obtain ⟨mz, hmz, rfl, _⟩ := o4 (by simp)
    have cy : (nI my).toNatClampNeg = my := nI_clamp (by omega)
    have cz : (nI mz).toNatClampNeg = mz := nI_clamp (by omega)
    refine ⟨inx, br_c (fun c => ⟨hin, ?_⟩) (fun c => ⟨hin, ?_⟩)⟩
    · exact sg_lookAtEvent_122 hi24 (by omega) (fun b => h0 (by simp [sg_ev, cx, cz, b, c])) (fun b => h1 _ (by simp [sg_ev, cx, cz, b, c]))
    · exact sg_lookAtEvent_122 hi24 (by omega) (fun b => h0 (by simp [sg_ev, cx, cy, b, c])) (fun b => h1 _ (by simp [sg_ev, cx, cy, b, c]))
  refine br_c (fun e => ?_) (fun e3 => ?_)
  · subst e
    obtain ⟨my, hmy, rfl, _⟩ := o3 (by simp)
    have cy : (nI my).toNatClampNeg = my := nI_clamp (by omega)
    refine ⟨hin, sg_merge hi24 (by omega) (by omega) (fun b1 b2 => ⟨sg_nb0, h0 (by simp [sg_ev, cx, cy, b1, b2])⟩) (fun v hv' => ⟨sg_nb1, h1 v ?_⟩)⟩
    rcases hv' with ⟨b1, b2, rfl⟩ | ⟨b1, b2, rfl⟩ | ⟨b1, b2, rfl⟩
    · simp [sg_ev, cx, cy, b1, b2]
    · simp [sg_ev, cx, cy, b1, b2]
    · simp [sg_ev, cx, cy, b1, b2]
  refine sg_has (by omega) ?_
  cases b : sg_bt hv mx
  · exact br_t rfl (h0 (by simp [sg_ev, cx, b, e0, e11, e9, e10, e3]))
  refine br_f (by decide) ⟨inx, nm_e ?_⟩
  refine br_c (fun e => ⟨hin, hin, sg_give hi24 ⟨sg_nb1, h1 _ ?_⟩⟩) (fun e1 => ?_)
  · subst e
    simp [sg_ev, cx, b]
  refine br_c (fun e => ⟨hin, br_c (fun c => h0 ?_) (fun c => sg_give hi24 (br_f (by decide) (h1 _ ?_)))⟩) (fun e2 => ?_)
  · subst e
    simp [sg_ev, cx, b, c]
  · subst e
    simp [sg_ev, cx, b, c]
  refine br_c (fun e => ?_) (fun e5 => ?_)
  · subst e
    obtain ⟨my, hmy, rfl, _⟩ := o3 (by simp)
    have cy : (nI my).toNatClampNeg = my := nI_clamp (by omega)
    refine ⟨hin, vp_in_nI (by omega) (by omega), sg_give hi24 ⟨sg_nb1, h1 _ ?_⟩⟩
    simp [sg_ev, cx, cy, b]
  refine br_c (fun e => ?_) (fun e7 => ?_)
  · subst e
    obtain ⟨my, hmy, rfl, _⟩ := o3 (by simp)
    have cy : (nI my).toNatClampNeg = my := nI_clamp (by omega)
    rw [cy]
    refine ⟨hin, vp_in_nI (by omega) (by omega), br_c (fun c => h0 ?_) (fun c => sg_give hi24 (br_f (by decide) (h1 _ ?_)))⟩
    · simp [sg_ev, cx, cy, b, c]
    · simp [sg_ev, cx, cy, b, c]
  refine br_c (fun e => ⟨hin, sg_give hi24 ⟨sg_nb1, h1 _ ?_⟩⟩) (fun e8 => ?_)
  · subst e
    simp [sg_ev, cx, b]
  refine br_c (fun c => sg_give hi24 (br_f (by decide) (h1 _ ?_))) (fun c => h0 ?_)
  · rw [sg_bz (by omega)] at c
    simp [sg_ev, cx, b, c, e0, e11, e9, e10, e3, e1, e2, e5, e7, e8]
  · rw [sg_bnz (by omega)] at c
    simp [sg_ev, cx, b, c, e0, e11, e9, e10, e3, e1, e2, e5, e7, e8]
theorem sg_lookAtCell_61 {nc ar hv ch kt ov tc lv wt : Int32} {a1 a2 a3 a4 a5 a6 a7 a8 a9 a10 : Nat → Int32} {post : Int32 → St1 → Prop} {i : Nat} {w : Int32} (hi : i < 24)
    (h0 : w = a7 i → post 0 (nc, ar, hv, ch, kt, ov, tc, lv, wt, a1, a2, a3, a4, a5, a6, a7, a8, a9, a10)) (h1 : ¬ w = a7 i → post 1 (nc, ar, hv, ch ||| ((1 : Int32) <<< (nI i &&& 31)), kt, ov, tc, lv, wt, a1, a2, a3, a4, a5, a6, a7, upd a8 i w, a9, a10)) : wX_lookAtCell_61 post (nI i) w nc ar hv ch kt ov tc lv wt a1 a2 a3 a4 a5 a6 a7 a8 a9 a10 := by
  have hin : vp_in (nI i) 24 := vp_in_nI (by omega) (by omega)
  unfold wX_lookAtCell_61
  rw [nI_clamp (by omega)]
  exact ⟨hin, br_c h0 (fun e => ⟨hin, nm_e (nm_e (h1 e))⟩)⟩
theorem sg_lookAtCell {nc ar hv ch kt ov tc lv wt : Int32} {a1 a2 a3 a4 a5 a6 a7 a8 a9 a10 : Nat → Int32} {post : Int32 → St1 → Prop} {n i : Nat} {K : Nat → Int32} (h24 : n ≤ 24) (hi : i < n) (hok : sg_ok n K i (a1 i) (a2 i) (a3 i) (a4 i)) (hc : sg_cb (a1 i) = true)
    (h0 : sg_ce i (a1 i) (a2 i) (a3 i) (a4 i) (sg_bt hv) (sg_bt ch) a7 a8 = none → post 0 (nc, ar, hv, ch, kt, ov, tc, lv, wt, a1, a2, a3, a4, a5, a6, a7, a8, a9, a10))
    (h1 : ∀ v, sg_ce i (a1 i) (a2 i) (a3 i) (a4 i) (sg_bt hv) (sg_bt ch) a7 a8 = some v → post 1 (nc, ar, hv, ch ||| ((1 : Int32) <<< (nI i &&& 31)), kt, ov, tc, lv, wt, a1, a2, a3, a4, a5, a6, a7, upd a8 i v, a9, a10)) : wpX_lookAtCell post (nc, ar, hv, ch, kt, ov, tc, lv, wt, a1, a2, a3, a4, a5, a6, a7, a8, a9, a10) (nI i) := by
  have hin : vp_in (nI i) 24 := vp_in_nI (by omega) (by omega)
  have hi24 : i < 24 := by omega
  have fin : ∀ w, w = sg_nxt i (a1 i) (a2 i) (a3 i) (a4 i) (sg_bt hv) (sg_bt ch) a7 a8 → wX_lookAtCell_61 post (nI i) w nc ar hv ch kt ov tc lv wt a1 a2 a3 a4 a5 a6 a7 a8 a9 a10 := by
    intro w hw
    unfold sg_ce at h0 h1
    rw [← hw] at h0 h1
    refine sg_lookAtCell_61 hi24 (fun e => h0 (by rw [if_pos e])) (fun e => h1 w (by rw [if_neg e]))
  unfold wpX_lookAtCell
  dsimp only
  rw [nI_clamp (show i < 2 ^ 31 by omega)]
  refine ⟨hin, nm_e ⟨hin, br_c (fun e4 => ?_) (fun e4 => ?_)⟩⟩
  · refine ⟨hin, br_c (fun c => fin _ ?_) (fun c => ⟨hin, ?_⟩)⟩
    · unfold sg_nxt
      rw [if_pos e4, if_pos c]
    · obtain ⟨m, hm, e⟩ : ∃ m, m < n ∧ a2 i = nI m := by
        rcases hok.1 e4 with q | q
        · rw [q] at c
          exact absurd (by decide) c
        · exact q
      rw [e]
      have cx : (nI m).toNatClampNeg = m := nI_clamp (by omega)
      refine sg_has (by omega) ?_
      rw [e] at c fin
      cases b : sg_bt hv m
      · refine br_t rfl (fin _ ?_)
        unfold sg_nxt
        rw [if_pos e4, if_neg c, cx, b]
        rfl
      · refine br_f (by decide) ⟨hin, vp_in_nI (by omega) (by omega), nm_e (fin _ ?_)⟩
        unfold sg_nxt
        rw [if_pos e4, if_neg c, cx, if_pos b]
  · have hk3 := sg_cb_kinds hc e4
    obtain ⟨⟨mx, h1x, hx1, _⟩, h2, h3⟩ := sg_ok_cell hok hk3
    refine sg_combined (f := fun m => if sg_bt ch m = true then a8 m else a7 m) hi24 ⟨mx, by omega, hx1⟩ (fun e => ?_) (fun e e6 => ?_) (fun m hm => ?_) (fin _ ?_)
    · obtain ⟨m, hm, e1, _⟩ := h2 e
      exact ⟨m, by omega, e1⟩
    · obtain ⟨m, hm, e1, _⟩ := h3 e e6
      exact ⟨m, by omega, e1⟩
    · cases b : sg_bt ch m
      · simp
      · simp
    · unfold sg_nxt
      rw [if_neg e4]
/-- one look -/
theorem sg_look {nc ar hv ch kt ov tc lv wt : Int32} {a1 a2 a3 a4 a5 a6 a7 a8 a9 a10 : Nat → Int32} {post : St1 → Prop} {n i : Nat} {K : Nat → Int32} (h24 : n ≤ 24) (hi : i < n) (hok : sg_ok n K i (a1 i) (a2 i) (a3 i) (a4 i))
    (he0 : sg_cb (a1 i) = false → sg_ev (a1 i) (a2 i) (a3 i) (a4 i) (sg_bt hv) (sg_bt ch) a7 a8 (sg_bt kt i) (sg_bt ov i) (a9 i) = none → post (nc, ar, hv, ch, kt, ov, tc, lv, wt &&& (((1 : Int32) <<< (nI i &&& 31)) ^^^ (-1)), a1, a2, a3, a4, a5, a6, a7, a8, a9, a10))
    (he1 : sg_cb (a1 i) = false → ∀ v, sg_ev (a1 i) (a2 i) (a3 i) (a4 i) (sg_bt hv) (sg_bt ch) a7 a8 (sg_bt kt i) (sg_bt ov i) (a9 i) = some v → post (nc, ar, hv ||| ((1 : Int32) <<< (nI i &&& 31)), ch, kt, ov, tc, lv, (wt &&& (((1 : Int32) <<< (nI i &&& 31)) ^^^ (-1))) ||| a6 i, a1, a2, a3, a4, a5, a6, upd a7 i v, a8, a9, a10))
    (hc0 : sg_cb (a1 i) = true → sg_ce i (a1 i) (a2 i) (a3 i) (a4 i) (sg_bt hv) (sg_bt ch) a7 a8 = none → post (nc, ar, hv, ch, kt, ov, tc, lv, wt &&& (((1 : Int32) <<< (nI i &&& 31)) ^^^ (-1)), a1, a2, a3, a4, a5, a6, a7, a8, a9, a10))
    (hc1 : sg_cb (a1 i) = true → ∀ v, sg_ce i (a1 i) (a2 i) (a3 i) (a4 i) (sg_bt hv) (sg_bt ch) a7 a8 = some v → post (nc, ar, hv, ch ||| ((1 : Int32) <<< (nI i &&& 31)), kt, ov, tc, lv, (wt &&& (((1 : Int32) <<< (nI i &&& 31)) ^^^ (-1))) ||| a6 i, a1, a2, a3, a4, a5, a6, a7, upd a8 i v, a9, a10)) :
    wpX_look post (nc, ar, hv, ch, kt, ov, tc, lv, wt, a1, a2, a3, a4, a5, a6, a7, a8, a9, a10) (nI i) := by
  have hin : vp_in (nI i) 24 := vp_in_nI (by omega) (by omega)
  unfold wpX_look
  dsimp only
  rw [nI_clamp (show i < 2 ^ 31 by omega)]
  refine nm_e ⟨hin, sg_cellKind ?_⟩
  cases hc : sg_cb (a1 i)
  · refine br_t rfl (sg_lookAtEvent (K := K) h24 hi hok (fun z => by rw [z] at hc; exact absurd hc (by decide)) (fun e => ?_) (fun v e => ?_))
    · exact br_t rfl (he0 hc e)
    · refine br_f (by decide) ⟨hin, nm_e ?_⟩
      rw [nI_clamp (show i < 2 ^ 31 by omega)]
      exact he1 hc v e
  · refine br_f (by decide) (sg_lookAtCell (K := K) h24 hi hok hc (fun e => ?_) (fun v e => ?_))
    · exact br_t rfl (hc0 hc e)
    · refine br_f (by decide) ⟨hin, nm_e ?_⟩
      rw [nI_clamp (show i < 2 ^ 31 by omega)]
      exact hc1 hc v e
end
section
/-! what a transaction gives: o i is what node i has (an event), or what it changes to (a cell) -/
def sg_hs (K : Nat → Int32) (o : Nat → Option Int32) (m : Nat) : Bool := !sg_cb (K m) && (o m).isSome
def sg_cd (K : Nat → Int32) (o : Nat → Option Int32) (m : Nat) : Bool := sg_cb (K m) && (o m).isSome
def sg_vv (K V : Nat → Int32) (o : Nat → Option Int32) (m : Nat) : Int32 := if sg_cb (K m) = true then V m else (o m).getD (V m)
def sg_nx (o : Nat → Option Int32) (m : Nat) : Int32 := (o m).getD 0
def sg_F (K X Y Z V Q : Nat → Int32) (P O : Nat → Bool) (o : Nat → Option Int32) (i : Nat) : Option Int32 :=
  if sg_cb (K i) = true then sg_ce i (K i) (X i) (Y i) (Z i) (sg_hs K o) (sg_cd K o) (sg_vv K V o) (sg_nx o)
  else sg_ev (K i) (X i) (Y i) (Z i) (sg_hs K o) (sg_cd K o) (sg_vv K V o) (sg_nx o) (P i) (O i) (Q i)
theorem sg_ev_congr {n i : Nat} {K : Nat → Int32} {k x y z : Int32} {hs cd hs' cd' : Nat → Bool} {v nx v' nx' : Nat → Int32} {pt ov : Bool} {q : Int32} (h24 : n ≤ 24) (hi : i < n) (hok : sg_ok n K i k x y z) (h4 : ¬ k = 4)
    (hp : ∀ m, m < n → sg_part k x y z m → hs m = hs' m ∧ cd m = cd' m ∧ v m = v' m ∧ (cd m = true → nx m = nx' m)) (hc : ∀ m, m < n → sg_cb (K m) = true → v m = v' m) :
    sg_ev k x y z hs cd v nx pt ov q = sg_ev k x y z hs' cd' v' nx' pt ov q := by
  obtain ⟨o1, o2, o3, o4⟩ := hok
  by_cases e0 : k = 0
  · simp [sg_ev, e0]
  by_cases e11 : k = 11
  · simp [sg_ev, e11]
  obtain ⟨mx, hmx, rfl, hcx⟩ := o2 e0 h4
  have cx : (nI mx).toNatClampNeg = mx := nI_clamp (by omega)
  by_cases e10 : k = 10
  · subst e10
    obtain ⟨my, hmy, rfl, _⟩ := o3 (by simp)
    obtain ⟨mz, hmz, rfl, _⟩ := o4 (by simp)
    have cy : (nI my).toNatClampNeg = my := nI_clamp (by omega)
    have cz : (nI mz).toNatClampNeg = mz := nI_clamp (by omega)
    obtain ⟨p1, p2, p3, p4⟩ := hp my (by omega) ⟨by omega, by decide, by decide, Or.inr (Or.inl ⟨Or.inl rfl, rfl⟩)⟩
    obtain ⟨q1, q2, q3, q4⟩ := hp mz (by omega) ⟨by omega, by decide, by decide, Or.inr (Or.inr ⟨Or.inl rfl, rfl⟩)⟩
    have r1 := hc mx (by omega) (hcx (by simp))
    simp [sg_ev, cx, cy, cz, p1, p3, q1, q3, r1]
  obtain ⟨p1, p2, p3, p4⟩ := hp mx (by omega) ⟨by omega, e0, e11, Or.inl ⟨e10, rfl⟩⟩
  by_cases e9 : k = 9
  · subst e9
    simp only [sg_ev, cx, ← p2]
    cases b : cd mx
    · simp
    · simp [p4 b]
  by_cases e3 : k = 3
  · subst e3
    obtain ⟨my, hmy, rfl, _⟩ := o3 (by simp)
    have cy : (nI my).toNatClampNeg = my := nI_clamp (by omega)
    obtain ⟨q1, q2, q3, q4⟩ := hp my (by omega) ⟨by omega, by decide, by decide, Or.inr (Or.inl ⟨Or.inr (Or.inl rfl), rfl⟩)⟩
    simp [sg_ev, cx, cy, p1, p3, q1, q3]
  by_cases e57 : k = 5 ∨ k = 7
  · obtain ⟨my, hmy, rfl, hcy⟩ := o3 (by rcases e57 with e | e <;> simp [e])
    have cy : (nI my).toNatClampNeg = my := nI_clamp (by omega)
    have r1 := hc my (by omega) (hcy (by rcases e57 with e | e <;> simp [e]))
    simp [sg_ev, cx, cy, p1, p3, r1, e0, e11, e9, e10, e3]
  · have e5 : ¬ k = 5 := fun z => e57 (Or.inl z)
    have e7 : ¬ k = 7 := fun z => e57 (Or.inr z)
    simp [sg_ev, cx, p1, p3, e0, e11, e9, e10, e3, e5, e7]
theorem sg_part_cell {i n : Nat} {K : Nat → Int32} {k x y z : Int32} (h24 : n ≤ 24) (hi : i < n) (hok : sg_ok n K i k x y z) (hk : k = 6 ∨ k = 13 ∨ k = 14) :
    (∃ m, m < n ∧ x = nI m ∧ sg_part k x y z m) ∧ (¬ k = 14 → ∃ m, m < n ∧ y = nI m ∧ sg_part k x y z m) ∧ (¬ k = 14 → ¬ k = 6 → ∃ m, m < n ∧ z = nI m ∧ sg_part k x y z m) := by
  have e0 : ¬ k = 0 := by rcases hk with e | e | e <;> rw [e] <;> decide
  have e11 : ¬ k = 11 := by rcases hk with e | e | e <;> rw [e] <;> decide
  have e10 : ¬ k = 10 := by rcases hk with e | e | e <;> rw [e] <;> decide
  obtain ⟨⟨mx, h1, hx, _⟩, h2, h3⟩ := sg_ok_cell hok hk
  refine ⟨⟨mx, by omega, hx, by omega, e0, e11, Or.inl ⟨e10, hx⟩⟩, fun e => ?_, fun e e6 => ?_⟩
  · obtain ⟨m, hm, hy, _⟩ := h2 e
    refine ⟨m, by omega, hy, by omega, e0, e11, Or.inr (Or.inl ⟨?_, hy⟩)⟩
    rcases hk with q | q | q
    · exact Or.inr (Or.inr (Or.inl q))
    · exact Or.inr (Or.inr (Or.inr q))
    · exact absurd q e
  · obtain ⟨m, hm, hz, _⟩ := h3 e e6
    refine ⟨m, by omega, hz, by omega, e0, e11, Or.inr (Or.inr ⟨?_, hz⟩)⟩
    rcases hk with q | q | q
    · exact absurd q e6
    · exact Or.inr q
    · exact absurd q e
theorem sg_comb_part {i n : Nat} {K : Nat → Int32} {k x y z : Int32} {f f' : Nat → Int32} (h24 : n ≤ 24) (hi : i < n) (hok : sg_ok n K i k x y z) (hk : k = 6 ∨ k = 13 ∨ k = 14) (hf : ∀ m, m < n → sg_part k x y z m → f m = f' m) : sg_comb k x y z f = sg_comb k x y z f' := by
  obtain ⟨⟨mx, h1, hx, px⟩, h2, h3⟩ := sg_part_cell h24 hi hok hk
  refine sg_comb_congr ?_ (fun e => ?_) (fun e e6 => ?_)
  · have cx : x.toNatClampNeg = mx := by rw [hx]; exact nI_clamp (by omega)
    rw [cx]
    exact hf mx h1 px
  · obtain ⟨m, hm, hy, py⟩ := h2 e
    have cx : y.toNatClampNeg = m := by rw [hy]; exact nI_clamp (by omega)
    rw [cx]
    exact hf m hm py
  · obtain ⟨m, hm, hz, pz⟩ := h3 e e6
    have cx : z.toNatClampNeg = m := by rw [hz]; exact nI_clamp (by omega)
    rw [cx]
    exact hf m hm pz
theorem sg_nxt_congr {n i : Nat} {K : Nat → Int32} {k x y z : Int32} {hs cd hs' cd' : Nat → Bool} {v nx v' nx' : Nat → Int32} (h24 : n ≤ 24) (hi : i < n) (hok : sg_ok n K i k x y z) (hk : sg_cb k = true)
    (hp : ∀ m, m < n → sg_part k x y z m → hs m = hs' m ∧ cd m = cd' m ∧ v m = v' m ∧ (cd m = true → nx m = nx' m)) (hv : v i = v' i) :
    sg_nxt i k x y z hs cd v nx = sg_nxt i k x y z hs' cd' v' nx' := by
  unfold sg_nxt
  by_cases e4 : k = 4
  · rw [if_pos e4, if_pos e4]
    rcases hok.1 e4 with q | ⟨m, hm, q⟩
    · rw [if_pos (by rw [q]; decide), if_pos (by rw [q]; decide), hv]
    · obtain ⟨p1, p2, p3, p4⟩ := hp m hm ⟨by omega, by rw [e4]; decide, by rw [e4]; decide, Or.inl ⟨by rw [e4]; decide, q⟩⟩
      have cx : x.toNatClampNeg = m := by rw [q]; exact nI_clamp (by omega)
      rw [cx, p1, p3, hv]
  · rw [if_neg e4, if_neg e4]
    refine sg_comb_part h24 hi hok (sg_cb_kinds hk e4) (fun m hm hP => ?_)
    obtain ⟨p1, p2, p3, p4⟩ := hp m hm hP
    rw [← p2]
    cases b : cd m
    · simp [p3]
    · simp [p4 b]
theorem sg_ce_congr {n i : Nat} {K : Nat → Int32} {k x y z : Int32} {hs cd hs' cd' : Nat → Bool} {v nx v' nx' : Nat → Int32} (h24 : n ≤ 24) (hi : i < n) (hok : sg_ok n K i k x y z) (hk : sg_cb k = true)
    (hp : ∀ m, m < n → sg_part k x y z m → hs m = hs' m ∧ cd m = cd' m ∧ v m = v' m ∧ (cd m = true → nx m = nx' m)) (hv : v i = v' i) :
    sg_ce i k x y z hs cd v nx = sg_ce i k x y z hs' cd' v' nx' := by
  unfold sg_ce
  rw [sg_nxt_congr h24 hi hok hk hp hv, hv]
/-! nothing told, nothing had -/
theorem sg_ev_quiet {n i : Nat} {K : Nat → Int32} {k x y z : Int32} {hs cd : Nat → Bool} {v nx : Nat → Int32} {pt ov : Bool} {q : Int32} (h24 : n ≤ 24) (hi : i < n) (hok : sg_ok n K i k x y z) (h4 : ¬ k = 4)
    (hp : ∀ m, m < n → sg_part k x y z m → hs m = false ∧ cd m = false) (h0 : k = 0 ∨ k = 11 → pt = false) : sg_ev k x y z hs cd v nx pt ov q = none := by
  obtain ⟨o1, o2, o3, o4⟩ := hok
  by_cases e0 : k = 0
  · simp [sg_ev, e0, h0 (Or.inl e0)]
  by_cases e11 : k = 11
  · simp [sg_ev, e11, h0 (Or.inr e11)]
  obtain ⟨mx, hmx, rfl, hcx⟩ := o2 e0 h4
  have cx : (nI mx).toNatClampNeg = mx := nI_clamp (by omega)
  by_cases e10 : k = 10
  · subst e10
    obtain ⟨my, hmy, rfl, _⟩ := o3 (by simp)
    obtain ⟨mz, hmz, rfl, _⟩ := o4 (by simp)
    have cy : (nI my).toNatClampNeg = my := nI_clamp (by omega)
    have cz : (nI mz).toNatClampNeg = mz := nI_clamp (by omega)
    obtain ⟨p1, p2⟩ := hp my (by omega) ⟨by omega, by decide, by decide, Or.inr (Or.inl ⟨Or.inl rfl, rfl⟩)⟩
    obtain ⟨q1, q2⟩ := hp mz (by omega) ⟨by omega, by decide, by decide, Or.inr (Or.inr ⟨Or.inl rfl, rfl⟩)⟩
    simp [sg_ev, cx, cy, cz, p1, q1]
  obtain ⟨p1, p2⟩ := hp mx (by omega) ⟨by omega, e0, e11, Or.inl ⟨e10, rfl⟩⟩
  by_cases e9 : k = 9
  · subst e9
    simp [sg_ev, cx, p2]
  by_cases e3 : k = 3
  · subst e3
    obtain ⟨my, hmy, rfl, _⟩ := o3 (by simp)
    have cy : (nI my).toNatClampNeg = my := nI_clamp (by omega)
    obtain ⟨q1, q2⟩ := hp my (by omega) ⟨by omega, by decide, by decide, Or.inr (Or.inl ⟨Or.inr (Or.inl rfl), rfl⟩)⟩
    simp [sg_ev, cx, cy, p1, q1]
  simp [sg_ev, cx, p1, e0, e11, e9, e10, e3]
theorem sg_ce_quiet {n i : Nat} {K : Nat → Int32} {k x y z : Int32} {hs cd : Nat → Bool} {v nx : Nat → Int32} (h24 : n ≤ 24) (hi : i < n) (hok : sg_ok n K i k x y z) (hk : sg_cb k = true)
    (hp : ∀ m, m < n → sg_part k x y z m → hs m = false ∧ cd m = false) (hv : (k = 6 ∨ k = 13 ∨ k = 14) → v i = sg_comb k x y z v) : sg_ce i k x y z hs cd v nx = none := by
  unfold sg_ce
  have e : sg_nxt i k x y z hs cd v nx = v i := by
    unfold sg_nxt
    by_cases e4 : k = 4
    · rw [if_pos e4]
      rcases hok.1 e4 with q | ⟨m, hm, q⟩
      · rw [if_pos (by rw [q]; decide)]
      · obtain ⟨p1, p2⟩ := hp m hm ⟨by omega, by rw [e4]; decide, by rw [e4]; decide, Or.inl ⟨by rw [e4]; decide, q⟩⟩
        have cx : x.toNatClampNeg = m := by rw [q]; exact nI_clamp (by omega)
        rw [cx, p1]
        simp
    · rw [if_neg e4, hv (sg_cb_kinds hk e4)]
      refine sg_comb_part h24 hi hok (sg_cb_kinds hk e4) (fun m hm hP => ?_)
      simp [(hp m hm hP).2]
  rw [if_pos e]
/-! the solution -/
theorem sg_F_congr {n i : Nat} {K X Y Z V Q : Nat → Int32} {P O : Nat → Bool} {o o' : Nat → Option Int32} (w : sg_wf n K X Y Z V) (hi : i < n) (h : ∀ m, m < n → sg_part (K i) (X i) (Y i) (Z i) m → o m = o' m) :
    sg_F K X Y Z V Q P O o i = sg_F K X Y Z V Q P O o' i := by
  obtain ⟨h24, w1, _, w3⟩ := w
  have hp : ∀ m, m < n → sg_part (K i) (X i) (Y i) (Z i) m → sg_hs K o m = sg_hs K o' m ∧ sg_cd K o m = sg_cd K o' m ∧ sg_vv K V o m = sg_vv K V o' m ∧ (sg_cd K o m = true → sg_nx o m = sg_nx o' m) := by
    intro m hm hP
    unfold sg_hs sg_cd sg_vv sg_nx
    rw [h m hm hP]
    exact ⟨rfl, rfl, rfl, fun _ => rfl⟩
  have hc : ∀ m, sg_cb (K m) = true → sg_vv K V o m = sg_vv K V o' m := by
    intro m hm
    unfold sg_vv
    rw [if_pos hm, if_pos hm]
  unfold sg_F
  cases hk : sg_cb (K i)
  · rw [if_neg (by decide), if_neg (by decide)]
    exact sg_ev_congr h24 hi (w1 i hi) (fun z => by rw [z] at hk; exact absurd hk (by decide)) hp (fun m _ => hc m)
  · rw [if_pos rfl, if_pos rfl]
    exact sg_ce_congr h24 hi (w1 i hi) hk hp (hc i hk)
def sg_it (K X Y Z V Q : Nat → Int32) (P O : Nat → Bool) : Nat → Nat → Option Int32
  | 0 => fun _ => none
  | f + 1 => sg_F K X Y Z V Q P O (sg_it K X Y Z V Q P O f)
theorem sg_sol {n : Nat} {K X Y Z V : Nat → Int32} (w : sg_wf n K X Y Z V) (Q : Nat → Int32) (P O : Nat → Bool) : ∃ o : Nat → Option Int32, ∀ i, i < n → o i = sg_F K X Y Z V Q P O o i := by
  obtain ⟨rk, hrk⟩ := sg_rank w
  have key : ∀ f i, i < n → rk i < f → ∀ e, sg_it K X Y Z V Q P O (f + e) i = sg_it K X Y Z V Q P O f i := by
    intro f
    induction f with
    | zero =>
      intro i hi h
      exact absurd h (by omega)
    | succ f ih =>
      intro i hi h e
      rw [show f + 1 + e = (f + e) + 1 by omega]
      show sg_F K X Y Z V Q P O (sg_it K X Y Z V Q P O (f + e)) i = sg_F K X Y Z V Q P O (sg_it K X Y Z V Q P O f) i
      refine sg_F_congr w hi (fun m hm hP => ih m hm ?_ e)
      have := ((hrk i hi).2 m hP).2
      omega
  refine ⟨sg_it K X Y Z V Q P O n, fun i hi => ?_⟩
  exact (key n i hi (hrk i hi).1 1).symm
end
section
/-! the loops of a transaction -/
def sg_done (K V : Nat → Int32) (o : Nat → Option Int32) (hv ch : Int32) (a7 a8 : Nat → Int32) (m : Nat) : Prop :=
  sg_bt hv m = sg_hs K o m ∧ sg_bt ch m = sg_cd K o m ∧ a7 m = sg_vv K V o m ∧ (sg_cd K o m = true → a8 m = sg_nx o m)
def sg_todo (V : Nat → Int32) (hv ch : Int32) (a7 : Nat → Int32) (m : Nat) : Prop := sg_bt hv m = false ∧ sg_bt ch m = false ∧ a7 m = V m
def sg_quiet (n : Nat) (K X Y Z : Nat → Int32) (P : Nat → Bool) (o : Nat → Option Int32) (D : Nat → Prop) (m : Nat) : Prop :=
  (K m = 0 ∨ K m = 11 → P m = false) ∧ ∀ q, q < n → sg_part (K m) (X m) (Y m) (Z m) q → D q → o q = none
def sg_inv (n : Nat) (K X Y Z V : Nat → Int32) (P : Nat → Bool) (o : Nat → Option Int32) (D : Nat → Prop) (hv ch wt : Int32) (a7 a8 : Nat → Int32) : Prop :=
  ∀ m, m < n → (D m → sg_done K V o hv ch a7 a8 m) ∧ (¬ D m → sg_todo V hv ch a7 m ∧ (sg_bt wt m = false → sg_quiet n K X Y Z P o D m))
theorem sg_done_none {K V : Nat → Int32} {o : Nat → Option Int32} {hv ch : Int32} {a7 a8 : Nat → Int32} {m : Nat} (h : sg_todo V hv ch a7 m) (ho : o m = none) : sg_done K V o hv ch a7 a8 m := by
  obtain ⟨h1, h2, h3⟩ := h
  unfold sg_done sg_hs sg_cd sg_vv sg_nx
  rw [ho, h1, h2, h3]
  simp
/-- a quiet node whose parts are done has nothing -/
theorem sg_quiet_none {n m : Nat} {K X Y Z V Q : Nat → Int32} {P O : Nat → Bool} {o : Nat → Option Int32} {D : Nat → Prop} (w : sg_wf n K X Y Z V) (ho : ∀ i, i < n → o i = sg_F K X Y Z V Q P O o i) (hm : m < n)
    (hq : sg_quiet n K X Y Z P o D m) (hD : ∀ q, q < n → sg_part (K m) (X m) (Y m) (Z m) q → D q ∨ o q = none) : o m = none := by
  obtain ⟨h24, w1, _, w3⟩ := w
  have hp : ∀ q, q < n → sg_part (K m) (X m) (Y m) (Z m) q → sg_hs K o q = false ∧ sg_cd K o q = false := by
    intro q hq1 hP
    have e : o q = none := by
      rcases hD q hq1 hP with z | z
      · exact hq.2 q hq1 hP z
      · exact z
    unfold sg_hs sg_cd
    rw [e]
    simp
  rw [ho m hm]
  unfold sg_F
  cases hk : sg_cb (K m)
  · rw [if_neg (by decide)]
    exact sg_ev_quiet h24 hm (w1 m hm) (fun z => by rw [z] at hk; exact absurd hk (by decide)) hp hq.1
  · rw [if_pos rfl]
    refine sg_ce_quiet h24 hm (w1 m hm) hk hp (fun hk3 => ?_)
    obtain ⟨⟨mx, h1, hx, px⟩, h2, h3⟩ := sg_ok_cell (w1 m hm) hk3
    have e1 : sg_vv K V o m = V m := by
      unfold sg_vv
      rw [if_pos hk]
    rw [e1, w3 m hm hk3]
    refine sg_comb_congr ?_ (fun e => ?_) (fun e e6 => ?_)
    · unfold sg_vv
      rw [hx, nI_clamp (by omega), if_pos px]
    · obtain ⟨my, hy, hy2, py⟩ := h2 e
      unfold sg_vv
      rw [hy2, nI_clamp (by omega), if_pos py]
    · obtain ⟨my, hy, hy2, py⟩ := h3 e e6
      unfold sg_vv
      rw [hy2, nI_clamp (by omega), if_pos py]
theorem sg_inv_none {n j : Nat} {K X Y Z V : Nat → Int32} {P : Nat → Bool} {o : Nat → Option Int32} {D D' : Nat → Prop} {hv ch wt wt' : Int32} {a7 a8 : Nat → Int32} (h : sg_inv n K X Y Z V P o D hv ch wt a7 a8) (hj : j < n) (hDj : ¬ D j) (hD : ∀ m, m < n → (D' m ↔ D m ∨ m = j)) (ho : o j = none)
    (hw : ∀ m, m < n → ¬ m = j → sg_bt wt' m = sg_bt wt m) : sg_inv n K X Y Z V P o D' hv ch wt' a7 a8 := by
  intro m hm
  by_cases e : m = j
  · subst e
    exact ⟨fun _ => sg_done_none ((h m hm).2 hDj).1 ho, fun z => absurd ((hD m hm).mpr (Or.inr rfl)) z⟩
  · refine ⟨fun z => ?_, fun z => ?_⟩
    · rcases (hD m hm).mp z with q | q
      · exact (h m hm).1 q
      · exact absurd q e
    · have hn : ¬ D m := fun q => z ((hD m hm).mpr (Or.inl q))
      obtain ⟨t1, t2⟩ := (h m hm).2 hn
      refine ⟨t1, fun b => ?_⟩
      rw [hw m hm e] at b
      obtain ⟨q1, q2⟩ := t2 b
      refine ⟨q1, fun q hq hP hd => ?_⟩
      rcases (hD q hq).mp hd with s | s
      · exact q2 q hq hP s
      · rw [s]
        exact ho
theorem sg_inv_some {n j : Nat} {K X Y Z V : Nat → Int32} {P : Nat → Bool} {o : Nat → Option Int32} {D D' : Nat → Prop} {hv ch wt wt' hv' ch' : Int32} {a7 a8 a7' a8' : Nat → Int32} (h : sg_inv n K X Y Z V P o D hv ch wt a7 a8) (hj : j < n) (hDj : ¬ D j) (hD : ∀ m, m < n → (D' m ↔ D m ∨ m = j))
    (hdone : sg_done K V o hv' ch' a7' a8' j) (hoth : ∀ m, m < n → ¬ m = j → sg_bt hv' m = sg_bt hv m ∧ sg_bt ch' m = sg_bt ch m ∧ a7' m = a7 m ∧ a8' m = a8 m)
    (hw : ∀ m, m < n → ¬ m = j → sg_bt wt' m = false → sg_bt wt m = false ∧ ¬ sg_part (K m) (X m) (Y m) (Z m) j) : sg_inv n K X Y Z V P o D' hv' ch' wt' a7' a8' := by
  intro m hm
  by_cases e : m = j
  · subst e
    exact ⟨fun _ => hdone, fun z => absurd ((hD m hm).mpr (Or.inr rfl)) z⟩
  · obtain ⟨f1, f2, f3, f4⟩ := hoth m hm e
    refine ⟨fun z => ?_, fun z => ?_⟩
    · rcases (hD m hm).mp z with q | q
      · obtain ⟨d1, d2, d3, d4⟩ := (h m hm).1 q
        unfold sg_done
        rw [f1, f2, f3, f4]
        exact ⟨d1, d2, d3, d4⟩
      · exact absurd q e
    · have hn : ¬ D m := fun q => z ((hD m hm).mpr (Or.inl q))
      obtain ⟨t1, t2⟩ := (h m hm).2 hn
      refine ⟨?_, fun b => ?_⟩
      · unfold sg_todo
        rw [f1, f2, f3]
        exact t1
      · obtain ⟨b1, b2⟩ := hw m hm e b
        obtain ⟨q1, q2⟩ := t2 b1
        refine ⟨q1, fun q hq hP hd => ?_⟩
        rcases (hD q hq).mp hd with s | s
        · exact q2 q hq hP s
        · subst s
          exact absurd hP b2
/-- what a look at j sees is what the solution says -/
theorem sg_look_sees {n j : Nat} {K X Y Z V Q : Nat → Int32} {P O : Nat → Bool} {o : Nat → Option Int32} {D : Nat → Prop} {hv ch wt : Int32} {a7 a8 : Nat → Int32} (w : sg_wf n K X Y Z V) (ho : ∀ i, i < n → o i = sg_F K X Y Z V Q P O o i) (hj : j < n)
    (h : sg_inv n K X Y Z V P o D hv ch wt a7 a8) (hD : ∀ q, q < n → sg_part (K j) (X j) (Y j) (Z j) q → D q) :
    (sg_cb (K j) = false → sg_ev (K j) (X j) (Y j) (Z j) (sg_bt hv) (sg_bt ch) a7 a8 (P j) (O j) (Q j) = o j) ∧ (sg_cb (K j) = true → sg_ce j (K j) (X j) (Y j) (Z j) (sg_bt hv) (sg_bt ch) a7 a8 = o j) := by
  obtain ⟨h24, w1, _, w3⟩ := w
  have hp : ∀ q, q < n → sg_part (K j) (X j) (Y j) (Z j) q → sg_bt hv q = sg_hs K o q ∧ sg_bt ch q = sg_cd K o q ∧ a7 q = sg_vv K V o q ∧ (sg_bt ch q = true → a8 q = sg_nx o q) := by
    intro q hq hP
    obtain ⟨d1, d2, d3, d4⟩ := (h q hq).1 (hD q hq hP)
    exact ⟨d1, d2, d3, fun b => d4 (by rw [← d2]; exact b)⟩
  have hc : ∀ m, m < n → sg_cb (K m) = true → a7 m = sg_vv K V o m := by
    intro m hm hk
    by_cases e : D m
    · exact ((h m hm).1 e).2.2.1
    · rw [((h m hm).2 e).1.2.2]
      unfold sg_vv
      rw [if_pos hk]
  refine ⟨fun hk => ?_, fun hk => ?_⟩
  · rw [ho j hj]
    unfold sg_F
    rw [if_neg (by rw [hk]; decide)]
    exact sg_ev_congr h24 hj (w1 j hj) (fun z => by rw [z] at hk; exact absurd hk (by decide)) hp hc
  · rw [ho j hj]
    unfold sg_F
    rw [if_pos hk]
    exact sg_ce_congr h24 hj (w1 j hj) hk hp (hc j hj hk)
def sg_D (ht : Nat → Nat) (h j m : Nat) : Prop := ht m < h ∨ (ht m = h ∧ m < j)
theorem sg_commit_100 {nc ar hv ch kt ov tc lv wt : Int32} {a1 a2 a3 a4 a5 a6 a7 a8 a9 a10 : Nat → Int32} {post : Int32 → St1 → Prop} {n h : Nat} {K X Y Z V Q : Nat → Int32} {P O : Nat → Bool} {o : Nat → Option Int32} {ht : Nat → Nat}
    {J : Int32 → Int32 → Int32 → Int32 → Int32 → Int32 → Int32 → Int32 → Int32 → Int32 → (Nat → Int32) → (Nat → Int32) → (Nat → Int32) → (Nat → Int32) → (Nat → Int32) → (Nat → Int32) → (Nat → Int32) → (Nat → Int32) → (Nat → Int32) → (Nat → Int32) → Prop}
    (w : sg_wf n K X Y Z V) (ho : ∀ i, i < n → o i = sg_F K X Y Z V Q P O o i) (hn : nc = nI n) (hh : h < 24)
    (he : ∀ i, i < n → a1 i = K i ∧ a2 i = X i ∧ a3 i = Y i ∧ a4 i = Z i ∧ a9 i = Q i ∧ sg_bt kt i = P i ∧ sg_bt ov i = O i)
    (ha : ∀ i, i < n → a5 i = nI (ht i) ∧ ht i < 24 ∧ ∀ m, sg_part (K i) (X i) (Y i) (Z i) m → ht m < ht i) (hb : ∀ m, m < n → ∀ i, i < n → (sg_bt (a6 m) i = true ↔ sg_part (K i) (X i) (Y i) (Z i) m))
    (hJ : ∀ hv ch wt a7 a8, sg_inv n K X Y Z V P o (sg_D ht (h + 1) 0) hv ch wt a7 a8 → J (nI (h + 1)) nc ar hv ch kt ov tc lv wt a1 a2 a3 a4 a5 a6 a7 a8 a9 a10) :
    ∀ d j hv ch wt a7 a8, j + d = n → sg_inv n K X Y Z V P o (sg_D ht h j) hv ch wt a7 a8 → wX_commit_100 post J (nI h) (d + 1) (nI j) nc ar hv ch kt ov tc lv wt a1 a2 a3 a4 a5 a6 a7 a8 a9 a10 := by
  have h24 := w.1
  intro d
  induction d with
  | zero =>
    intro j hv ch wt a7 a8 hj g
    refine br_t (by rw [hn]; exact nI_le (by omega) (by omega)) (nm_r (nI_1 h) (hJ hv ch wt a7 a8 ?_))
    intro m hm
    have eD : ∀ m, m < n → (sg_D ht (h + 1) 0 m ↔ sg_D ht h j m) := by
      intro m hm
      unfold sg_D
      omega
    obtain ⟨g1, g2⟩ := g m hm
    refine ⟨fun z => g1 ((eD m hm).mp z), fun z => ?_⟩
    obtain ⟨t1, t2⟩ := g2 (fun q => z ((eD m hm).mpr q))
    exact ⟨t1, fun b => ⟨(t2 b).1, fun q hq hP hd => (t2 b).2 q hq hP ((eD q hq).mp hd)⟩⟩
  | succ d ih =>
    intro j hv ch wt a7 a8 hj g
    have hjn : j < n := by omega
    obtain ⟨a5e, htl, hpt⟩ := ha j hjn
    have hskip : ¬ ht j = h → sg_inv n K X Y Z V P o (sg_D ht h (j + 1)) hv ch wt a7 a8 := by
      intro hne m hm
      have eD : ∀ m, m < n → (sg_D ht h (j + 1) m ↔ sg_D ht h j m) := by
        intro m hm
        unfold sg_D
        by_cases e : m = j
        · subst e
          omega
        · omega
      obtain ⟨g1, g2⟩ := g m hm
      refine ⟨fun z => g1 ((eD m hm).mp z), fun z => ?_⟩
      obtain ⟨t1, t2⟩ := g2 (fun q => z ((eD m hm).mpr q))
      exact ⟨t1, fun b => ⟨(t2 b).1, fun q hq hP hd => (t2 b).2 q hq hP ((eD q hq).mp hd)⟩⟩
    have hDj : ¬ sg_D ht h j j ∨ ht j < h := by
      unfold sg_D
      omega
    have hDe : ht j = h → ∀ m, m < n → (sg_D ht h (j + 1) m ↔ sg_D ht h j m ∨ m = j) := by
      intro e m hm
      unfold sg_D
      by_cases em : m = j
      · subst em
        omega
      · omega
    have hDp : ht j = h → ∀ q, q < n → sg_part (K j) (X j) (Y j) (Z j) q → sg_D ht h j q := by
      intro e q hq hP
      have := hpt q hP
      unfold sg_D
      omega
    refine br_f (by rw [hn]; exact nI_ge (by omega) (by omega)) (br_c (fun b => nm_r (nI_1 j) ?_) (fun b => ⟨vp_in_nI (by omega) (by omega), ?_⟩))
    · rw [sg_bz (by omega)] at b
      refine ih (j + 1) hv ch wt a7 a8 (by omega) ?_
      by_cases e : ht j = h
      · have hnD : ¬ sg_D ht h j j := by
          unfold sg_D
          omega
        have hq := ((g j hjn).2 hnD).2 b
        exact sg_inv_none g hjn hnD (hDe e) (sg_quiet_none w ho hjn hq (fun q hq1 hP => Or.inl (hDp e q hq1 hP))) (fun _ _ _ => rfl)
      · exact hskip e
    · rw [nI_clamp (by omega), a5e]
      refine pk_eq (ht j) h (fun e => ?_) (fun e => nm_r (nI_1 j) (ih (j + 1) hv ch wt a7 a8 (by omega) (hskip e)))
      have hnD : ¬ sg_D ht h j j := by
        unfold sg_D
        omega
      obtain ⟨f1, f2, f3, f4, f9, fk, fo⟩ := he j hjn
      obtain ⟨s1, s2⟩ := sg_look_sees w ho hjn g (hDp e)
      obtain ⟨⟨t1, t2, t3⟩, _⟩ := (g j hjn).2 hnD
      have hclr : ∀ m, m < n → ¬ m = j → sg_bt (wt &&& (((1 : Int32) <<< (nI j &&& 31)) ^^^ (-1))) m = sg_bt wt m := by
        intro m hm hne
        rw [sg_b_clr (by omega) (by omega)]
        simp [hne]
      have hwt : ∀ m, m < n → ¬ m = j → sg_bt ((wt &&& (((1 : Int32) <<< (nI j &&& 31)) ^^^ (-1))) ||| a6 j) m = false → sg_bt wt m = false ∧ ¬ sg_part (K m) (X m) (Y m) (Z m) j := by
        intro m hm hne hf
        rw [sg_b_or, hclr m hm hne, Bool.or_eq_false_iff] at hf
        refine ⟨hf.1, fun hP => ?_⟩
        rw [(hb j hjn m hm).mpr hP] at hf
        exact nomatch hf.2
      refine sg_look (n := n) (K := K) h24 hjn (by rw [f1, f2, f3, f4]; exact w.2.1 j hjn) (fun hk z => nm_r (nI_1 j) ?_) (fun hk v z => nm_r (nI_1 j) ?_) (fun hk z => nm_r (nI_1 j) ?_) (fun hk v z => nm_r (nI_1 j) ?_)
      · rw [f1] at hk
        rw [f1, f2, f3, f4, f9, fk, fo, s1 hk] at z
        exact ih (j + 1) _ _ _ _ _ (by omega) (sg_inv_none g hjn hnD (hDe e) z hclr)
      · rw [f1] at hk
        rw [f1, f2, f3, f4, f9, fk, fo, s1 hk] at z
        refine ih (j + 1) _ _ _ _ _ (by omega) (sg_inv_some g hjn hnD (hDe e) ?_ (fun m hm hne => ?_) hwt)
        · refine ⟨?_, ?_, ?_, ?_⟩
          · rw [sg_b_set (by omega) (by omega)]
            unfold sg_hs
            rw [z, hk]
            simp
          · rw [t2]
            unfold sg_cd
            rw [hk]
            rfl
          · rw [pk_us]
            unfold sg_vv
            rw [hk, z]
            rfl
          · unfold sg_cd
            rw [hk]
            exact fun q => (nomatch q)
        · refine ⟨?_, rfl, pk_un hne, rfl⟩
          rw [sg_b_set (by omega) (by omega)]
          simp [hne]
      · rw [f1] at hk
        rw [f1, f2, f3, f4, s2 hk] at z
        exact ih (j + 1) _ _ _ _ _ (by omega) (sg_inv_none g hjn hnD (hDe e) z hclr)
      · rw [f1] at hk
        rw [f1, f2, f3, f4, s2 hk] at z
        refine ih (j + 1) _ _ _ _ _ (by omega) (sg_inv_some g hjn hnD (hDe e) ?_ (fun m hm hne => ?_) hwt)
        · refine ⟨?_, ?_, ?_, ?_⟩
          · rw [t1]
            unfold sg_hs
            rw [hk]
            rfl
          · rw [sg_b_set (by omega) (by omega)]
            unfold sg_cd
            rw [z, hk]
            simp
          · rw [t3]
            unfold sg_vv
            rw [if_pos hk]
          · intro _
            rw [pk_us]
            unfold sg_nx
            rw [z]
            rfl
        · refine ⟨rfl, ?_, rfl, pk_un hne⟩
          rw [sg_b_set (by omega) (by omega)]
          simp [hne]
theorem sg_commit_85 {nc ar hv ch kt ov tc lv wt : Int32} {a1 a2 a3 a4 a5 a6 a7 a8 a9 a10 : Nat → Int32} {post : Int32 → St1 → Prop} {n : Nat} {K X Y Z V Q : Nat → Int32} {P O : Nat → Bool} {o : Nat → Option Int32} {ht : Nat → Nat}
    (w : sg_wf n K X Y Z V) (ho : ∀ i, i < n → o i = sg_F K X Y Z V Q P O o i) (hn : nc = nI n)
    (he : ∀ i, i < n → a1 i = K i ∧ a2 i = X i ∧ a3 i = Y i ∧ a4 i = Z i ∧ a9 i = Q i ∧ sg_bt kt i = P i ∧ sg_bt ov i = O i)
    (ha : ∀ i, i < n → a5 i = nI (ht i) ∧ ht i < 24 ∧ ∀ m, sg_part (K i) (X i) (Y i) (Z i) m → ht m < ht i) (hb : ∀ m, m < n → ∀ i, i < n → (sg_bt (a6 m) i = true ↔ sg_part (K i) (X i) (Y i) (Z i) m))
    (hfin : ∀ hv ch wt a7 a8, (∀ m, m < n → sg_done K V o hv ch a7 a8 m) → wX_commit_146 post nc ar hv ch kt ov tc lv wt a1 a2 a3 a4 a5 a6 a7 a8 a9 a10) :
    ∀ d h hv ch wt a7 a8, h + d = 24 → sg_inv n K X Y Z V P o (sg_D ht h 0) hv ch wt a7 a8 → wX_commit_85 post (d + 1) (nI h) nc ar hv ch kt ov tc lv wt a1 a2 a3 a4 a5 a6 a7 a8 a9 a10 := by
  intro d
  induction d with
  | zero =>
    intro h hv ch wt a7 a8 hd g
    have e : h = 24 := by omega
    subst e
    refine br_t (by decide) (hfin hv ch wt a7 a8 (fun m hm => (g m hm).1 (Or.inl (ha m hm).2.1)))
  | succ d ih =>
    intro h hv ch wt a7 a8 hd g
    refine br_f (nI_ge (b := 24) (by omega) (by decide)) (br_c (fun e => hfin hv ch wt a7 a8 ?_) (fun e => ⟨n + 1, ?_⟩))
    · have none : ∀ b m, ht m < b → m < n → ¬ sg_D ht h 0 m → o m = none := by
        intro b
        induction b with
        | zero =>
          intro m hb
          exact absurd hb (by omega)
        | succ b ihb =>
          intro m hb2 hm hnD
          have hq := ((g m hm).2 hnD).2 (sg_b_eq0 e m)
          refine sg_quiet_none w ho hm hq (fun q hq1 hP => ?_)
          by_cases hD : sg_D ht h 0 q
          · exact Or.inl hD
          · have := (ha m hm).2.2 q hP
            exact Or.inr (ihb q (by omega) hq1 hD)
      intro m hm
      by_cases hD : sg_D ht h 0 m
      · exact (g m hm).1 hD
      · exact sg_done_none ((g m hm).2 hD).1 (none (ht m + 1) m (by omega) hm hD)
    · exact sg_commit_100 (hv := hv) (ch := ch) (wt := wt) (a7 := a7) (a8 := a8) w ho hn (by omega) he ha hb (fun hv ch wt a7 a8 g' => ih (h + 1) hv ch wt a7 a8 (by omega) g') n 0 hv ch wt a7 a8 (by omega) g
theorem sg_startsByItself {nc ar hv ch kt ov tc lv wt : Int32} {a1 a2 a3 a4 a5 a6 a7 a8 a9 a10 : Nat → Int32} {post : Int32 → Prop} {i : Nat} (hi : i < 24) (h1 : (a1 i = 0 ∨ a1 i = 11) → sg_bt kt i = true → post 1) (h0 : ((a1 i = 0 ∨ a1 i = 11) → sg_bt kt i = false) → post 0) : wpX_startsByItself post (nc, ar, hv, ch, kt, ov, tc, lv, wt, a1, a2, a3, a4, a5, a6, a7, a8, a9, a10) (nI i) := by
  have hin : vp_in (nI i) 24 := vp_in_nI (by omega) (by omega)
  have h20 : (a1 i = 0 ∨ a1 i = 11) → wX_startsByItself_20 post (nI i) nc ar hv ch kt ov tc lv wt a1 a2 a3 a4 a5 a6 a7 a8 a9 a10 := by
    intro hk
    unfold wX_startsByItself_20
    refine br_c (fun b => ?_) (fun b => ?_)
    · rw [sg_bz (by omega)] at b
      exact h0 (fun _ => b)
    · rw [sg_bnz (by omega)] at b
      exact h1 hk b
  unfold wpX_startsByItself
  dsimp only
  rw [nI_clamp (show i < 2 ^ 31 by omega)]
  refine ⟨hin, br_c (fun e => h20 (Or.inl e)) (fun e => ⟨hin, br_c (fun e2 => h20 (Or.inr e2)) (fun e2 => h0 (fun z => ?_))⟩)⟩
  rcases z with z | z
  · exact absurd z e
  · exact absurd z e2
theorem sg_commit_49 {nc ar hv ch kt ov tc lv wt : Int32} {a1 a2 a3 a4 a5 a6 a7 a8 a9 a10 : Nat → Int32} {post : Int32 → St1 → Prop} {n : Nat} (hn : nc = nI n) (h24 : n ≤ 24)
    (hfin : ∀ wt, (∀ m, m < n → sg_bt wt m = false → (a1 m = 0 ∨ a1 m = 11) → sg_bt kt m = false) → ∃ fu, wX_commit_85 post fu 0 nc ar hv ch kt ov tc lv wt a1 a2 a3 a4 a5 a6 a7 a8 a9 a10) :
    ∀ d j wt, j + d = n → (∀ m, m < j → sg_bt wt m = false → (a1 m = 0 ∨ a1 m = 11) → sg_bt kt m = false) → wX_commit_49 post nc ar hv ch kt ov tc lv a1 a2 a3 a4 a5 a6 a7 a8 a9 a10 (d + 1) (nI j) wt := by
  intro d
  induction d with
  | zero =>
    intro j wt hj g
    exact br_t (by rw [hn]; exact nI_le (by omega) (by omega)) (hfin wt (fun m hm => g m (by omega)))
  | succ d ih =>
    intro j wt hj g
    refine br_f (by rw [hn]; exact nI_ge (by omega) (by omega)) (sg_startsByItself (by omega) (fun hk hb => br_f (by decide) (nm_e (nm_r (nI_1 j) ?_))) (fun hk => br_t rfl (nm_r (nI_1 j) ?_)))
    · refine ih (j + 1) _ (by omega) (fun m hm hf hk2 => ?_)
      rw [sg_b_set (by omega) (by omega), Bool.or_eq_false_iff] at hf
      have hne : ¬ m = j := by simpa using hf.2
      exact g m (by omega) hf.1 hk2
    · refine ih (j + 1) _ (by omega) (fun m hm hf hk2 => ?_)
      by_cases e : m = j
      · subst e
        exact hk hk2
      · exact g m (by omega) hf hk2
end
section
/-! finish: what a transaction leaves -/
def sg_V1 (K V : Nat → Int32) (o : Nat → Option Int32) (m : Nat) : Int32 := if sg_cd K o m = true then sg_nx o m else sg_vv K V o m
def sg_T1 (K T : Nat → Int32) (o : Nat → Option Int32) (m : Nat) : Int32 := if sg_hs K o m = true then T m + 1 else T m
def sg_P1 (K : Nat → Int32) (P : Nat → Bool) (m : Nat) : Bool := P m && !decide (K m = 0)
def sg_Q1 (K V Q : Nat → Int32) (o : Nat → Option Int32) (m : Nat) : Int32 := if K m = 8 ∧ sg_hs K o m = true then sg_V1 K V o m else Q m
def sg_O1 (K : Nat → Int32) (O : Nat → Bool) (o : Nat → Option Int32) (m : Nat) : Bool := O m || (decide (K m = 12) && sg_hs K o m)
def sg_P2 (K X : Nat → Int32) (P : Nat → Bool) (o : Nat → Option Int32) (m : Nat) : Bool := if K m = 11 then sg_hs K o (X m).toNatClampNeg else sg_P1 K P m
def sg_Q2 (K X V Q : Nat → Int32) (o : Nat → Option Int32) (m : Nat) : Int32 := if K m = 11 ∧ sg_hs K o (X m).toNatClampNeg = true then sg_V1 K V o (X m).toNatClampNeg else sg_Q1 K V Q o m
theorem sg_keep {nc ar hv ch kt ov tc lv wt : Int32} {a1 a2 a3 a4 a5 a6 a7 a8 a9 a10 : Nat → Int32} {post : St1 → Prop} {i m : Nat} (hi : i < 24) (hm : m < 24) (h0 : sg_bt hv m = false → post (nc, ar, hv, ch, kt &&& (((1 : Int32) <<< (nI i &&& 31)) ^^^ (-1)), ov, tc, lv, wt, a1, a2, a3, a4, a5, a6, a7, a8, a9, a10)) (h1 : sg_bt hv m = true → post (nc, ar, hv, ch, kt ||| ((1 : Int32) <<< (nI i &&& 31)), ov, tc, lv, wt, a1, a2, a3, a4, a5, a6, a7, a8, upd a9 i (a7 m), a10)) : wpX_keep post (nc, ar, hv, ch, kt, ov, tc, lv, wt, a1, a2, a3, a4, a5, a6, a7, a8, a9, a10) (nI i) (nI m) := by
  unfold wpX_keep
  dsimp only
  rw [nI_clamp (show i < 2 ^ 31 by omega), nI_clamp (show m < 2 ^ 31 by omega)]
  refine sg_has hm ?_
  cases b : sg_bt hv m
  · exact br_t rfl (nm_e (h0 b))
  · exact br_f (by decide) ⟨vp_in_nI hm (by omega), vp_in_nI hi (by omega), nm_e (nm_e (h1 b))⟩
theorem sg_finish_141 {nc ar hv ch kt ov tc lv wt : Int32} {a1 a2 a3 a4 a5 a6 a7 a8 a9 a10 : Nat → Int32} {post : St1 → Prop} {n : Nat} {K X Y Z V Q : Nat → Int32} {P : Nat → Bool} {o : Nat → Option Int32} (hn : nc = nI n) (h24 : n ≤ 24) (hok : ∀ i, i < n → sg_ok n K i (K i) (X i) (Y i) (Z i))
    (he : ∀ i, i < n → a1 i = K i ∧ a2 i = X i ∧ sg_bt hv i = sg_hs K o i ∧ a7 i = sg_V1 K V o i)
    (hp : ∀ kt a9, (∀ i, i < n → sg_bt kt i = sg_P2 K X P o i ∧ a9 i = sg_Q2 K X V Q o i) → post (nc, ar, hv, ch, kt, ov, tc, lv, wt, a1, a2, a3, a4, a5, a6, a7, a8, a9, a10)) :
    ∀ d j kt a9, j + d = n → (∀ i, i < n → (i < j → sg_bt kt i = sg_P2 K X P o i ∧ a9 i = sg_Q2 K X V Q o i) ∧ (j ≤ i → sg_bt kt i = sg_P1 K P i ∧ a9 i = sg_Q1 K V Q o i)) → wX_finish_141 post (d + 1) (nI j) nc ar hv ch kt ov tc lv wt a1 a2 a3 a4 a5 a6 a7 a8 a9 a10 := by
  intro d
  induction d with
  | zero =>
    intro j kt a9 hj g
    exact br_t (by rw [hn]; exact nI_le (by omega) (by omega)) (hp kt a9 (fun i hi => (g i hi).1 (by omega)))
  | succ d ih =>
    intro j kt a9 hj g
    have hjn : j < n := by omega
    obtain ⟨f1, f2, f3, f4⟩ := he j hjn
    obtain ⟨g1, g2⟩ := (g j hjn).2 (Nat.le_refl _)
    refine br_f (by rw [hn]; exact nI_ge (by omega) (by omega)) ⟨vp_in_nI (by omega) (by omega), ?_⟩
    rw [nI_clamp (by omega), f1, f2]
    refine br_c (fun e => ⟨vp_in_nI (by omega) (by omega), ?_⟩) (fun e => nm_r (nI_1 j) ?_)
    · obtain ⟨m, hm, ex, _⟩ := (hok j hjn).2.1 (by rw [e]; decide) (by rw [e]; decide)
      have cx : (X j).toNatClampNeg = m := by rw [ex]; exact nI_clamp (by omega)
      obtain ⟨q1, q2, q3, q4⟩ := he m (by omega)
      rw [ex]
      refine sg_keep (by omega) (by omega) (fun b => nm_r (nI_1 j) ?_) (fun b => nm_r (nI_1 j) ?_)
      · rw [q3] at b
        refine ih (j + 1) _ _ (by omega) (fun i hi => ⟨fun hl => ?_, fun hl => ?_⟩)
        · rw [sg_b_clr (by omega) (by omega)]
          by_cases ei : i = j
          · subst ei
            unfold sg_P2 sg_Q2
            rw [cx, b, if_pos e, g2]
            simp
          · have := (g i hi).1 (by omega)
            rw [this.1]
            exact ⟨by simp [ei], this.2⟩
        · have := (g i hi).2 (by omega)
          rw [sg_b_clr (by omega) (by omega), this.1]
          exact ⟨by simp [show ¬ i = j by omega], this.2⟩
      · rw [q3] at b
        refine ih (j + 1) _ _ (by omega) (fun i hi => ⟨fun hl => ?_, fun hl => ?_⟩)
        · rw [sg_b_set (by omega) (by omega)]
          by_cases ei : i = j
          · subst ei
            unfold sg_P2 sg_Q2
            rw [cx, b, if_pos e, pk_us, if_pos ⟨e, rfl⟩, q4]
            simp
          · have := (g i hi).1 (by omega)
            rw [this.1, pk_un ei]
            exact ⟨by simp [ei], this.2⟩
        · have := (g i hi).2 (by omega)
          rw [sg_b_set (by omega) (by omega), this.1, pk_un (by omega)]
          exact ⟨by simp [show ¬ i = j by omega], this.2⟩
    · refine ih (j + 1) _ _ (by omega) (fun i hi => ⟨fun hl => ?_, fun hl => (g i hi).2 (by omega)⟩)
      by_cases ei : i = j
      · subst ei
        unfold sg_P2 sg_Q2
        rw [if_neg e, if_neg (fun z => e z.1)]
        exact ⟨g1, g2⟩
      · exact (g i hi).1 (by omega)
theorem sg_finish_54 {nc ar hv ch kt ov tc lv wt : Int32} {a1 a2 a3 a4 a5 a6 a7 a8 a9 a10 : Nat → Int32} {post : St1 → Prop} {j : Nat}
    {J : Int32 → Int32 → Int32 → (Nat → Int32) → (Nat → Int32) → (Nat → Int32) → (Nat → Int32) → (Nat → Int32) → (Nat → Int32) → (Nat → Int32) → (Nat → Int32) → (Nat → Int32) → (Nat → Int32) → Prop}
    (hj : j < 24)
    (h : ∀ kt' ov' b9, kt' = (if a1 j = 0 then kt &&& (((1 : Int32) <<< (nI j &&& 31)) ^^^ (-1)) else kt) → ov' = (if a1 j = 12 ∧ sg_bt hv j = true then ov ||| ((1 : Int32) <<< (nI j &&& 31)) else ov) → b9 = (if a1 j = 8 ∧ sg_bt hv j = true then upd a9 j (a7 j) else a9) → J (nI (j + 1)) kt' ov' a1 a2 a3 a4 a5 a6 a7 a8 b9 a10) :
    wX_finish_54 post J (nI j) ((1 : Int32) <<< (nI j &&& 31)) nc ar hv ch kt ov tc lv wt a1 a2 a3 a4 a5 a6 a7 a8 a9 a10 := by
  have hin : vp_in (nI j) 24 := vp_in_nI (by omega) (by omega)
  have h109 : ¬ a1 j = 0 → (¬ a1 j = 8 ∨ sg_bt hv j = false) → wX_finish_109 post J (nI j) ((1 : Int32) <<< (nI j &&& 31)) (a1 j) nc ar hv ch kt ov tc lv wt a1 a2 a3 a4 a5 a6 a7 a8 a9 a10 := by
    intro e0 e8
    have e9 : ¬ (a1 j = 8 ∧ sg_bt hv j = true) := by
      intro z
      rcases e8 with q | q
      · exact q z.1
      · rw [q] at z
        exact nomatch z.2
    unfold wX_finish_109
    refine br_c (fun e12 => sg_has hj ?_) (fun e12 => nm_r (nI_1 j) (h _ _ _ (by rw [if_neg e0]) (by rw [if_neg (fun z => e12 z.1)]) (by rw [if_neg e9])))
    cases b : sg_bt hv j
    · exact br_t rfl (nm_r (nI_1 j) (h _ _ _ (by rw [if_neg e0]) (by rw [if_neg (fun z => by rw [b] at z; exact nomatch z.2)]) (by rw [if_neg e9])))
    · exact br_f (by decide) (nm_e (nm_r (nI_1 j) (h _ _ _ (by rw [if_neg e0]) (by rw [if_pos ⟨e12, b⟩]) (by rw [if_neg e9]))))
  unfold wX_finish_54
  rw [nI_clamp (show j < 2 ^ 31 by omega)]
  refine ⟨hin, nm_e (br_c (fun e0 => nm_e (nm_r (nI_1 j) (h _ _ _ (by rw [if_pos e0]) (by rw [if_neg (fun z => by rw [e0] at z; exact absurd z.1 (by decide))]) (by rw [if_neg (fun z => by rw [e0] at z; exact absurd z.1 (by decide))])))) (fun e0 => br_c (fun e8 => sg_has hj ?_) (fun e8 => h109 e0 (Or.inl e8))))⟩
  cases b : sg_bt hv j
  · exact br_t rfl (h109 e0 (Or.inr b))
  · exact br_f (by decide) ⟨hin, hin, nm_e (nm_r (nI_1 j) (h _ _ _ (by rw [if_neg e0]) (by rw [if_neg (fun z => by rw [e8] at z; exact absurd z.1 (by decide))]) (by rw [if_pos ⟨e8, b⟩])))⟩
theorem sg_finish_35 {nc ar hv ch kt ov tc lv wt : Int32} {a1 a2 a3 a4 a5 a6 a7 a8 a9 a10 : Nat → Int32} {post : St1 → Prop} {j : Nat}
    {J : Int32 → Int32 → Int32 → (Nat → Int32) → (Nat → Int32) → (Nat → Int32) → (Nat → Int32) → (Nat → Int32) → (Nat → Int32) → (Nat → Int32) → (Nat → Int32) → (Nat → Int32) → (Nat → Int32) → Prop}
    (hj : j < 24) (h : ∀ b10, b10 = (if sg_bt hv j = true then upd a10 j (a10 j + 1) else a10) → wX_finish_54 post J (nI j) ((1 : Int32) <<< (nI j &&& 31)) nc ar hv ch kt ov tc lv wt a1 a2 a3 a4 a5 a6 a7 a8 a9 b10) :
    wX_finish_35 post J (nI j) ((1 : Int32) <<< (nI j &&& 31)) nc ar hv ch kt ov tc lv wt a1 a2 a3 a4 a5 a6 a7 a8 a9 a10 := by
  have hin : vp_in (nI j) 24 := vp_in_nI (by omega) (by omega)
  unfold wX_finish_35
  rw [nI_clamp (show j < 2 ^ 31 by omega), sg_b_and0 (show j < 32 by omega)]
  refine br_c (fun b => h _ (by rw [if_neg (by rw [b]; decide)])) (fun b => ⟨hin, hin, nm_e (h _ ?_)⟩)
  have b' : sg_bt hv j = true := by simpa using b
  rw [if_pos b']
def sg_i1 (n : Nat) (K V Q T : Nat → Int32) (P O : Nat → Bool) (o : Nat → Option Int32) (j : Nat) (kt ov : Int32) (a7 a9 a10 : Nat → Int32) : Prop :=
  ∀ i, i < n → (i < j → a7 i = sg_V1 K V o i ∧ a10 i = sg_T1 K T o i ∧ sg_bt kt i = sg_P1 K P i ∧ a9 i = sg_Q1 K V Q o i ∧ sg_bt ov i = sg_O1 K O o i) ∧
    (j ≤ i → a7 i = sg_vv K V o i ∧ a10 i = T i ∧ sg_bt kt i = P i ∧ a9 i = Q i ∧ sg_bt ov i = O i)
theorem sg_finish_2 {nc ar hv ch kt ov tc lv wt : Int32} {a1 a2 a3 a4 a5 a6 a7 a8 a9 a10 : Nat → Int32} {post : St1 → Prop} {n : Nat} {K V Q T : Nat → Int32} {P O : Nat → Bool} {o : Nat → Option Int32} (hn : nc = nI n) (h24 : n ≤ 24)
    (he : ∀ i, i < n → a1 i = K i ∧ sg_bt hv i = sg_hs K o i ∧ sg_bt ch i = sg_cd K o i ∧ (sg_cd K o i = true → a8 i = sg_nx o i))
    (hp : ∀ kt ov a7 a9 a10, sg_i1 n K V Q T P O o n kt ov a7 a9 a10 → ∃ fu, wX_finish_141 post fu 0 nc ar hv ch kt ov tc lv wt a1 a2 a3 a4 a5 a6 a7 a8 a9 a10) :
    ∀ d j kt ov a7 a9 a10, j + d = n → sg_i1 n K V Q T P O o j kt ov a7 a9 a10 → wX_finish_2 post nc ar hv ch tc lv wt (d + 1) (nI j) kt ov a1 a2 a3 a4 a5 a6 a7 a8 a9 a10 := by
  intro d
  induction d with
  | zero =>
    intro j kt ov a7 a9 a10 hj g
    have e : j = n := by omega
    subst e
    exact br_t (by rw [hn]; exact nI_le (by omega) (by omega)) (hp kt ov a7 a9 a10 g)
  | succ d ih =>
    intro j kt ov a7 a9 a10 hj g
    have hjn : j < n := by omega
    have hin : vp_in (nI j) 24 := vp_in_nI (by omega) (by omega)
    obtain ⟨f1, f2, f3, f4⟩ := he j hjn
    obtain ⟨g1, g2, g3, g4, g5⟩ := (g j hjn).2 (Nat.le_refl _)
    have key : ∀ b7 : Nat → Int32, b7 j = sg_V1 K V o j → (∀ i, ¬ i = j → b7 i = a7 i) → wX_finish_35 post (wX_finish_2 post nc ar hv ch tc lv wt (d + 1)) (nI j) ((1 : Int32) <<< (nI j &&& 31)) nc ar hv ch kt ov tc lv wt a1 a2 a3 a4 a5 a6 b7 a8 a9 a10 := by
      intro b7 hb1 hb2
      refine sg_finish_35 (by omega) (fun b10 e10 => sg_finish_54 (by omega) (fun kt' ov' b9 ek eo e9 => ih (j + 1) kt' ov' b7 b9 b10 (by omega) (fun i hi => ⟨fun hl => ?_, fun hl => ?_⟩)))
      · by_cases ei : i = j
        · subst ei
          rw [f1] at ek eo e9
          rw [f2] at e10 eo e9
          refine ⟨hb1, ?_, ?_, ?_, ?_⟩
          · rw [e10]
            unfold sg_T1
            cases b : sg_hs K o i
            · rw [if_neg (by decide), if_neg (by decide)]
              exact g2
            · rw [if_pos rfl, if_pos rfl, pk_us, g2]
          · rw [ek]
            unfold sg_P1
            by_cases e0 : K i = 0
            · rw [if_pos e0, sg_b_clr (by omega) (by omega)]
              simp [e0]
            · rw [if_neg e0, g3]
              simp [e0]
          · rw [e9]
            unfold sg_Q1
            by_cases e8 : K i = 8 ∧ sg_hs K o i = true
            · rw [if_pos e8, if_pos e8, pk_us, hb1]
            · rw [if_neg e8, if_neg e8]
              exact g4
          · rw [eo]
            unfold sg_O1
            by_cases e12 : K i = 12 ∧ sg_hs K o i = true
            · rw [if_pos e12, sg_b_set (by omega) (by omega), e12.1, e12.2]
              simp
            · rw [if_neg e12, g5]
              by_cases ea : K i = 12
              · have eb : sg_hs K o i = false := by
                  cases b : sg_hs K o i
                  · rfl
                  · exact absurd ⟨ea, b⟩ e12
                simp [eb]
              · simp [ea]
        · obtain ⟨q1, q2, q3, q4, q5⟩ := (g i hi).1 (by omega)
          refine ⟨by rw [hb2 i ei]; exact q1, ?_, ?_, ?_, ?_⟩
          · rw [e10]
            split
            · rw [pk_un ei]
              exact q2
            · exact q2
          · rw [ek]
            split
            · rw [sg_b_clr (by omega) (by omega), q3]
              simp [ei]
            · exact q3
          · rw [e9]
            split
            · rw [pk_un ei]
              exact q4
            · exact q4
          · rw [eo]
            split
            · rw [sg_b_set (by omega) (by omega), q5]
              simp [ei]
            · exact q5
      · have ei : ¬ i = j := by omega
        obtain ⟨q1, q2, q3, q4, q5⟩ := (g i hi).2 (by omega)
        refine ⟨by rw [hb2 i ei]; exact q1, ?_, ?_, ?_, ?_⟩
        · rw [e10]
          split
          · rw [pk_un ei]
            exact q2
          · exact q2
        · rw [ek]
          split
          · rw [sg_b_clr (by omega) (by omega), q3]
            simp [ei]
          · exact q3
        · rw [e9]
          split
          · rw [pk_un ei]
            exact q4
          · exact q4
        · rw [eo]
          split
          · rw [sg_b_set (by omega) (by omega), q5]
            simp [ei]
          · exact q5
    refine br_f (by rw [hn]; exact nI_ge (by omega) (by omega)) (nm_e ?_)
    rw [nI_clamp (show j < 2 ^ 31 by omega), sg_b_and0 (show j < 32 by omega), f3]
    refine br_c (fun b => key a7 ?_ (fun _ _ => rfl)) (fun b => ⟨hin, hin, nm_e (key _ ?_ (fun i hi => pk_un hi))⟩)
    · unfold sg_V1
      rw [b]
      exact g1
    · have b' : sg_cd K o j = true := by simpa using b
      unfold sg_V1
      rw [pk_us, if_pos b']
      exact f4 b'
theorem sg_finish {nc ar hv ch kt ov tc lv wt : Int32} {a1 a2 a3 a4 a5 a6 a7 a8 a9 a10 : Nat → Int32} {post : St1 → Prop} {n : Nat} {K X Y Z V Q T : Nat → Int32} {P O : Nat → Bool} {o : Nat → Option Int32} (hn : nc = nI n) (h24 : n ≤ 24) (hok : ∀ i, i < n → sg_ok n K i (K i) (X i) (Y i) (Z i))
    (he : ∀ i, i < n → a1 i = K i ∧ a2 i = X i ∧ a9 i = Q i ∧ a10 i = T i ∧ sg_bt kt i = P i ∧ sg_bt ov i = O i ∧ sg_done K V o hv ch a7 a8 i)
    (hp : ∀ kt ov a7 a9 a10, (∀ i, i < n → a7 i = sg_V1 K V o i ∧ a10 i = sg_T1 K T o i ∧ sg_bt kt i = sg_P2 K X P o i ∧ a9 i = sg_Q2 K X V Q o i ∧ sg_bt ov i = sg_O1 K O o i) → post (nc, ar, hv, ch, kt, ov, tc, lv, wt, a1, a2, a3, a4, a5, a6, a7, a8, a9, a10)) : wpX_finish post (nc, ar, hv, ch, kt, ov, tc, lv, wt, a1, a2, a3, a4, a5, a6, a7, a8, a9, a10) := by
  refine ⟨n + 1, ?_⟩
  refine sg_finish_2 (kt := kt) (ov := ov) (a7 := a7) (a9 := a9) (a10 := a10) (K := K) (V := V) (Q := Q) (T := T) (P := P) (O := O) (o := o) hn h24 (fun i hi => ?_) (fun kt' ov' b7 b9 b10 g => ⟨n + 1, ?_⟩) n 0 kt ov a7 a9 a10 (by omega) (fun i hi => ⟨fun z => absurd z (by omega), fun _ => ?_⟩)
  · obtain ⟨f1, f2, f3, f4, f5, f6, d1, d2, d3, d4⟩ := he i hi
    exact ⟨f1, d1, d2, d4⟩
  · refine sg_finish_141 (kt := kt') (a9 := b9) (K := K) (X := X) (Y := Y) (Z := Z) (V := V) (Q := Q) (P := P) (o := o) hn h24 hok (fun i hi => ?_) (fun kt2 c9 g2 => hp kt2 ov' b7 c9 b10 (fun i hi => ?_)) n 0 kt' b9 (by omega) (fun i hi => ⟨fun z => absurd z (by omega), fun _ => ?_⟩)
    · obtain ⟨f1, f2, f3, f4, f5, f6, d1, d2, d3, d4⟩ := he i hi
      exact ⟨f1, f2, d1, ((g i hi).1 hi).1⟩
    · obtain ⟨q1, q2, q3, q4, q5⟩ := (g i hi).1 hi
      exact ⟨q1, q2, (g2 i hi).1, (g2 i hi).2, q5⟩
    · obtain ⟨q1, q2, q3, q4, q5⟩ := (g i hi).1 hi
      exact ⟨q3, q4⟩
  · obtain ⟨f1, f2, f3, f4, f5, f6, d1, d2, d3, d4⟩ := he i hi
    exact ⟨d3, f4, f5, f3, f6⟩
/-! how many have a value -/
def sg_cn (f : Nat → Bool) : Nat → Int32
  | 0 => 0
  | k + 1 => if f k = true then sg_cn f k + 1 else sg_cn f k
theorem sg_commit_154 {nc ar hv ch kt ov tc lv wt : Int32} {a1 a2 a3 a4 a5 a6 a7 a8 a9 a10 : Nat → Int32} {post : Int32 → St1 → Prop} {n : Nat} {f : Nat → Bool} (hn : nc = nI n) (h24 : n ≤ 24) (hf : ∀ i, i < n → sg_bt hv i = f i) (hp : post (sg_cn f n) (nc, ar, hv, ch, kt, ov, tc, lv, wt, a1, a2, a3, a4, a5, a6, a7, a8, a9, a10)) :
    ∀ d j, j + d = n → wX_commit_154 post nc ar hv ch kt ov tc lv wt a1 a2 a3 a4 a5 a6 a7 a8 a9 a10 (d + 1) (sg_cn f j) (nI j) := by
  intro d
  induction d with
  | zero =>
    intro j hj
    have e : j = n := by omega
    subst e
    exact br_t (by rw [hn]; exact nI_le (by omega) (by omega)) hp
  | succ d ih =>
    intro j hj
    have t := ih (j + 1) (by omega)
    have hjn : j < n := by omega
    refine br_f (by rw [hn]; exact nI_ge (by omega) (by omega)) (br_c (fun b => nm_r (nI_1 j) ?_) (fun b => nm_e (nm_r (nI_1 j) ?_)))
    · rw [sg_bz (by omega), hf j hjn] at b
      have e : sg_cn f (j + 1) = sg_cn f j := by
        show (if f j = true then sg_cn f j + 1 else sg_cn f j) = sg_cn f j
        rw [if_neg (by rw [b]; decide)]
      rw [e] at t
      exact t
    · rw [sg_bnz (by omega), hf j hjn] at b
      have e : sg_cn f (j + 1) = sg_cn f j + 1 := by
        show (if f j = true then sg_cn f j + 1 else sg_cn f j) = sg_cn f j + 1
        rw [if_pos b]
      rw [e] at t
      exact t
/-! commit -/
theorem sg_wf_commit {n : Nat} {K X Y Z V Q : Nat → Int32} {P O : Nat → Bool} {o : Nat → Option Int32} (w : sg_wf n K X Y Z V) (ho : ∀ i, i < n → o i = sg_F K X Y Z V Q P O o i) : sg_wf n K X Y Z (sg_V1 K V o) := by
  obtain ⟨h24, w1, w2, w3⟩ := w
  refine ⟨h24, w1, w2, fun i hi hk => ?_⟩
  have hcb : sg_cb (K i) = true := by rcases hk with e | e | e <;> rw [e] <;> decide
  have h4 : ¬ K i = 4 := by rcases hk with e | e | e <;> rw [e] <;> decide
  have h := ho i hi
  unfold sg_F at h
  rw [if_pos hcb] at h
  unfold sg_ce at h
  have en : sg_nxt i (K i) (X i) (Y i) (Z i) (sg_hs K o) (sg_cd K o) (sg_vv K V o) (sg_nx o) = sg_comb (K i) (X i) (Y i) (Z i) (sg_V1 K V o) := by
    unfold sg_nxt
    rw [if_neg h4]
    rfl
  rw [en] at h
  by_cases e : sg_comb (K i) (X i) (Y i) (Z i) (sg_V1 K V o) = sg_vv K V o i
  · rw [if_pos e] at h
    rw [e]
    unfold sg_V1 sg_cd
    rw [h]
    simp
  · rw [if_neg e] at h
    have ev : sg_V1 K V o i = sg_nx o i := by
      unfold sg_V1 sg_cd
      rw [h, hcb]
      simp
    rw [ev]
    unfold sg_nx
    rw [h]
    rfl
theorem sg_a_commit {g : sg_G} (w : sg_WF g) : ∃ r h, sg_WF h ∧ h.1 = g.1 ∧ sg_A g (fun post u => wpX_commit post u) r h := by
  obtain ⟨n, K, X, Y, Z, V, Q, T, H, P, O, c⟩ := g
  have w0 : sg_wf n K X Y Z V := w
  obtain ⟨o, ho⟩ := sg_sol w0 Q P O
  refine ⟨sg_cn (sg_hs K o) n, (n, K, X, Y, Z, sg_V1 K V o, sg_Q2 K X V Q o, sg_T1 K T o, sg_hs K o, sg_P2 K X P o, sg_O1 K O o, c + 1), sg_wf_commit w0 ho, rfl, fun u hu post h => ?_⟩
  obtain ⟨nc, ar, hv, ch, kt, ov, tc, lv, wt, a1, a2, a3, a4, a5, a6, a7, a8, a9, a10⟩ := u
  obtain ⟨e1, e2, e3, e4⟩ := hu
  obtain ⟨h24, w1, w2, w3⟩ := w
  unfold wpX_commit
  dsimp only
  refine sg_arrange w0 e1 (fun i hi => ⟨(e3 i hi).1, (e3 i hi).2.1, (e3 i hi).2.2.1, (e3 i hi).2.2.2.1⟩) e4 (fun br b5 b6 hbr ha => nm_e ?_)
  have ha0 := ha
  obtain ⟨ht, ha1, ha2⟩ := ha
  have key : ∀ wt', (∀ m, m < n → sg_bt wt' m = false → (a1 m = 0 ∨ a1 m = 11) → sg_bt kt m = false) → ∃ fu, wX_commit_85 post fu 0 nc br 0 0 kt ov (tc + 1) lv wt' a1 a2 a3 a4 b5 b6 a7 a8 a9 a10 := by
    intro wt' hw
    refine ⟨25, ?_⟩
    refine sg_commit_85 (hv := 0) (ch := 0) (wt := wt') (a7 := a7) (a8 := a8) (o := o) (Q := Q) (P := P) (O := O) (K := K) (X := X) (Y := Y) (Z := Z) (V := V) (ht := ht) w0 ho e1 (fun i hi => ?_) ha1 ha2 (fun hv' ch' wt2 b7 b8 hd => ?_) 24 0 0 0 wt' a7 a8 (by omega) (fun m hm => ?_)
    · obtain ⟨f1, f2, f3, f4, f5, f6, f7, f8, f9, f10⟩ := e3 i hi
      exact ⟨f1, f2, f3, f4, f6, f9, f10⟩
    · unfold wX_commit_146
      refine sg_finish (K := K) (X := X) (Y := Y) (Z := Z) (V := V) (Q := Q) (T := T) (P := P) (O := O) (o := o) e1 h24 w1 (fun i hi => ?_) (fun kt2 ov2 c7 c9 c10 hc => ⟨n + 1, ?_⟩)
      · obtain ⟨f1, f2, f3, f4, f5, f6, f7, f8, f9, f10⟩ := e3 i hi
        exact ⟨f1, f2, f6, f7, f9, f10, hd i hi⟩
      · refine sg_commit_154 (f := sg_hs K o) e1 h24 (fun i hi => (hd i hi).1) (h _ ⟨e1, by rw [e2], fun i hi => ?_, fun _ => ha0⟩) n 0 (by omega)
        obtain ⟨f1, f2, f3, f4, f5, f6, f7, f8, f9, f10⟩ := e3 i hi
        obtain ⟨q1, q2, q3, q4, q5⟩ := hc i hi
        exact ⟨f1, f2, f3, f4, q1, q4, q2, (hd i hi).1, q3, q5⟩
    · have hnD : ¬ sg_D ht 0 0 m := by
        unfold sg_D
        omega
      refine ⟨fun z => absurd z hnD, fun _ => ⟨⟨sg_b_0 m, sg_b_0 m, (e3 m hm).2.2.2.2.1⟩, fun b => ⟨fun hk => ?_, fun q hq hP hD => ?_⟩⟩⟩
      · obtain ⟨f1, f2, f3, f4, f5, f6, f7, f8, f9, f10⟩ := e3 m hm
        rw [← f9]
        rw [← f1] at hk
        exact hw m hm b hk
      · unfold sg_D at hD
        omega
  refine br_c (fun e => nm_e ⟨n + 1, ?_⟩) (fun e => ⟨n + 1, ?_⟩)
  · exact sg_commit_49 (wt := 0) e1 h24 key n 0 _ (by omega) (fun m hm => absurd hm (by omega))
  · exact sg_commit_49 (wt := 0) e1 h24 key n 0 _ (by omega) (fun m hm => absurd hm (by omega))
end
section
/-! pick and made -/
theorem sg_pick_3 {g : sg_G} (w : sg_WF g) (hg : 0 < g.1) (f s : Int32) : ∀ d k, k + d = g.1 → ∃ r : Int32, ∀ (nc ar hv ch kt ov tc lv wt : Int32) (a1 a2 a3 a4 a5 a6 a7 a8 a9 a10 : Nat → Int32), sg_Rep g (nc, ar, hv, ch, kt, ov, tc, lv, wt, a1, a2, a3, a4, a5, a6, a7, a8, a9, a10) → ∀ post : Int32 → Prop, post r → wL_pick_3 post (nI g.1) f s nc ar hv ch kt ov tc lv wt a1 a2 a3 a4 a5 a6 a7 a8 a9 a10 (d + 1) (nI k) := by
  have h24 := sg_WF_24 w
  intro d
  induction d with
  | zero =>
    intro k hk
    refine ⟨-1, ?_⟩
    intro nc ar hv ch kt ov tc lv wt a1 a2 a3 a4 a5 a6 a7 a8 a9 a10 hu post h
    exact br_t (nI_le (by omega) (by omega)) h
  | succ d ih =>
    intro k hk
    obtain ⟨r, hr⟩ := ih (k + 1) (by omega)
    obtain ⟨t, ht⟩ := sg_q_sort w ((f + nI k) - (f + nI k) / nI g.1 * nI g.1)
    have hn0 : ¬ nI g.1 = 0 := nI_ne0 hg (by omega)
    by_cases e : t = s
    · refine ⟨(f + nI k) - (f + nI k) / nI g.1 * nI g.1, ?_⟩
      intro nc ar hv ch kt ov tc lv wt a1 a2 a3 a4 a5 a6 a7 a8 a9 a10 hu post h
      exact br_f (nI_ge (by omega) (by omega)) ⟨hn0, ht _ hu _ (br_t e ⟨hn0, h⟩)⟩
    · refine ⟨r, ?_⟩
      intro nc ar hv ch kt ov tc lv wt a1 a2 a3 a4 a5 a6 a7 a8 a9 a10 hu post h
      exact br_f (nI_ge (by omega) (by omega)) ⟨hn0, ht _ hu _ (br_f e (nm_r (nI_1 k) (hr nc ar hv ch kt ov tc lv wt a1 a2 a3 a4 a5 a6 a7 a8 a9 a10 hu post h)))⟩
theorem sg_pick {g : sg_G} (w : sg_WF g) (p s : Int32) : ∃ r : Int32, ∀ u, sg_Rep g u → ∀ R : Int32 → Prop, R r → ((nI g.1 = 0 → R (-1)) ∧ (¬ nI g.1 = 0 → (¬ nI g.1 = 0 ∧ wpL_pick R u (nI g.1) p s))) := by
  have h24 := sg_WF_24 w
  rcases Nat.eq_zero_or_pos g.1 with h0 | h0
  · refine ⟨-1, fun u hu R h => br_t ?_ h⟩
    rw [h0]
    rfl
  · obtain ⟨r, hr⟩ := sg_pick_3 w h0 p s g.1 0 (by omega)
    refine ⟨r, fun u hu R h => br_f (nI_ne0 h0 (by omega)) ⟨nI_ne0 h0 (by omega), ?_⟩⟩
    obtain ⟨nc, ar, hv, ch, kt, ov, tc, lv, wt, a1, a2, a3, a4, a5, a6, a7, a8, a9, a10⟩ := u
    exact ⟨g.1 + 1, hr nc ar hv ch kt ov tc lv wt a1 a2 a3 a4 a5 a6 a7 a8 a9 a10 hu R h⟩
/-- an act that makes a node or doesn't -/
def sg_M (g : sg_G) (W : (Int32 → St1 → Prop) → St1 → Prop) : Prop := ∃ r h, sg_WF h ∧ ((r < 0 ∧ h.1 = g.1) ∨ (r = nI g.1 ∧ h.1 = g.1 + 1)) ∧ sg_A g W r h
/-- a node made, by what is asked -/
theorem sg_M_node {g : sg_G} (w : sg_WF g) (k x y z : Int32) {W : (Int32 → St1 → Prop) → St1 → Prop} (h : ∀ u, sg_Rep g u → ∀ post, wpX_node (fun r v => match v with | (nc, ar, hv, ch, kt, ov, tc, lv, wt, a1, a2, a3, a4, a5, a6, a7, a8, a9, a10) => post r (nc, ar, hv, ch, kt, ov, tc, lv, wt, a1, a2, a3, a4, a5, a6, a7, a8, a9, a10)) u k x y z → W post u) : sg_M g W := by
  obtain ⟨r, h', h1, h2, h3⟩ := sg_a_node w k x y z
  refine ⟨r, h', h1, h2, fun u hu post hp => h u hu post (h3 u hu _ (fun v hv => ?_))⟩
  obtain ⟨nc, ar, hv, ch, kt, ov, tc, lv, wt, a1, a2, a3, a4, a5, a6, a7, a8, a9, a10⟩ := v
  exact hp _ hv
theorem sg_M_to {g : sg_G} {W W' : (Int32 → St1 → Prop) → St1 → Prop} (h : sg_M g W) (t : ∀ u, sg_Rep g u → ∀ post, W post u → W' post u) : sg_M g W' := by
  obtain ⟨r, h', h1, h2, h3⟩ := h
  exact ⟨r, h', h1, h2, fun u hu post hp => t u hu post (h3 u hu post hp)⟩
theorem sg_made_209 {g : sg_G} (w : sg_WF g) (x3 x5 x8 x9 x10 x11 x12 x13 : Int32) : sg_M g (fun post u => match u with | (nc, ar, hv, ch, kt, ov, tc, lv, wt, a1, a2, a3, a4, a5, a6, a7, a8, a9, a10) => wL_made_209 post x3 x5 x8 x9 x10 x11 x12 x13 nc ar hv ch kt ov tc lv wt a1 a2 a3 a4 a5 a6 a7 a8 a9 a10) := by
  by_cases e3 : x5 = 3
  · refine sg_M_node w 3 x9 x10 0 (fun u hu post h => ?_)
    obtain ⟨nc, ar, hv, ch, kt, ov, tc, lv, wt, a1, a2, a3, a4, a5, a6, a7, a8, a9, a10⟩ := u
    exact br_t e3 h
  by_cases e4 : x5 = 4
  · by_cases c : (x8 &&& 3) = 0
    · refine sg_M_node w 4 (-1) (x3 - x3 / 10 * 10) 0 (fun u hu post h => ?_)
      obtain ⟨nc, ar, hv, ch, kt, ov, tc, lv, wt, a1, a2, a3, a4, a5, a6, a7, a8, a9, a10⟩ := u
      exact br_f e3 (br_t e4 (br_t c ⟨by decide, h⟩))
    · refine sg_M_node w 4 x9 (x3 - x3 / 10 * 10) 0 (fun u hu post h => ?_)
      obtain ⟨nc, ar, hv, ch, kt, ov, tc, lv, wt, a1, a2, a3, a4, a5, a6, a7, a8, a9, a10⟩ := u
      exact br_f e3 (br_t e4 (br_f c ⟨by decide, h⟩))
  by_cases e5 : x5 = 5
  · refine sg_M_node w x5 x9 x12 0 (fun u hu post h => ?_)
    obtain ⟨nc, ar, hv, ch, kt, ov, tc, lv, wt, a1, a2, a3, a4, a5, a6, a7, a8, a9, a10⟩ := u
    exact br_f e3 (br_f e4 (br_t e5 h))
  by_cases e7 : x5 = 7
  · refine sg_M_node w x5 x9 x12 0 (fun u hu post h => ?_)
    obtain ⟨nc, ar, hv, ch, kt, ov, tc, lv, wt, a1, a2, a3, a4, a5, a6, a7, a8, a9, a10⟩ := u
    exact br_f e3 (br_f e4 (br_f e5 (br_t e7 h)))
  by_cases e6 : x5 = 6
  · refine sg_M_node w x5 x11 x12 x13 (fun u hu post h => ?_)
    obtain ⟨nc, ar, hv, ch, kt, ov, tc, lv, wt, a1, a2, a3, a4, a5, a6, a7, a8, a9, a10⟩ := u
    exact br_f e3 (br_f e4 (br_f e5 (br_f e7 (br_t e6 h))))
  by_cases e9 : x5 = 9
  · refine sg_M_node w x5 x11 x12 x13 (fun u hu post h => ?_)
    obtain ⟨nc, ar, hv, ch, kt, ov, tc, lv, wt, a1, a2, a3, a4, a5, a6, a7, a8, a9, a10⟩ := u
    exact br_f e3 (br_f e4 (br_f e5 (br_f e7 (br_f e6 (br_t e9 h)))))
  by_cases e13 : x5 = 13
  · refine sg_M_node w x5 x11 x12 x13 (fun u hu post h => ?_)
    obtain ⟨nc, ar, hv, ch, kt, ov, tc, lv, wt, a1, a2, a3, a4, a5, a6, a7, a8, a9, a10⟩ := u
    exact br_f e3 (br_f e4 (br_f e5 (br_f e7 (br_f e6 (br_f e9 (br_t e13 h))))))
  by_cases e10 : x5 = 10
  · refine sg_M_node w 10 x11 x10 x9 (fun u hu post h => ?_)
    obtain ⟨nc, ar, hv, ch, kt, ov, tc, lv, wt, a1, a2, a3, a4, a5, a6, a7, a8, a9, a10⟩ := u
    exact br_f e3 (br_f e4 (br_f e5 (br_f e7 (br_f e6 (br_f e9 (br_f e13 (br_t e10 h)))))))
  by_cases e14 : x5 = 14
  · refine sg_M_node w 14 x11 (x3 - x3 / 5 * 5) ((x3 >>> ((8 : Int32) &&& 31)) &&& 7) (fun u hu post h => ?_)
    obtain ⟨nc, ar, hv, ch, kt, ov, tc, lv, wt, a1, a2, a3, a4, a5, a6, a7, a8, a9, a10⟩ := u
    exact br_f e3 (br_f e4 (br_f e5 (br_f e7 (br_f e6 (br_f e9 (br_f e13 (br_f e10 (br_t e14 ⟨by decide, h⟩))))))))
  · refine sg_M_node w x5 x9 (x3 - x3 / 5 * 5) ((x3 >>> ((8 : Int32) &&& 31)) &&& 7) (fun u hu post h => ?_)
    obtain ⟨nc, ar, hv, ch, kt, ov, tc, lv, wt, a1, a2, a3, a4, a5, a6, a7, a8, a9, a10⟩ := u
    exact br_f e3 (br_f e4 (br_f e5 (br_f e7 (br_f e6 (br_f e9 (br_f e13 (br_f e10 (br_f e14 ⟨by decide, h⟩))))))))
theorem sg_made_160 {g : sg_G} (w : sg_WF g) (x3 x5 x8 x9 x10 x11 x12 x13 : Int32) : sg_M g (fun post u => match u with | (nc, ar, hv, ch, kt, ov, tc, lv, wt, a1, a2, a3, a4, a5, a6, a7, a8, a9, a10) => wL_made_160 post x3 x5 x8 x9 x10 x11 x12 x13 nc ar hv ch kt ov tc lv wt a1 a2 a3 a4 a5 a6 a7 a8 a9 a10) := by
  have A := sg_made_209 w x3 x5 x8 x9 x10 x11 x12 x13
  have B := sg_made_209 w x3 4 x8 x9 x10 x11 x12 x13
  by_cases c : 0 ≤ x11
  · refine sg_M_to A (fun u hu post h => ?_)
    obtain ⟨nc, ar, hv, ch, kt, ov, tc, lv, wt, a1, a2, a3, a4, a5, a6, a7, a8, a9, a10⟩ := u
    exact br_t c h
  by_cases e5 : x5 = 5
  · refine sg_M_to B (fun u hu post h => ?_)
    obtain ⟨nc, ar, hv, ch, kt, ov, tc, lv, wt, a1, a2, a3, a4, a5, a6, a7, a8, a9, a10⟩ := u
    exact br_f c (br_t e5 h)
  by_cases e6 : x5 = 6
  · refine sg_M_to B (fun u hu post h => ?_)
    obtain ⟨nc, ar, hv, ch, kt, ov, tc, lv, wt, a1, a2, a3, a4, a5, a6, a7, a8, a9, a10⟩ := u
    exact br_f c (br_f e5 (br_t e6 h))
  by_cases e7 : x5 = 7
  · refine sg_M_to B (fun u hu post h => ?_)
    obtain ⟨nc, ar, hv, ch, kt, ov, tc, lv, wt, a1, a2, a3, a4, a5, a6, a7, a8, a9, a10⟩ := u
    exact br_f c (br_f e5 (br_f e6 (br_t e7 h)))
  by_cases e9 : x5 = 9
  · refine sg_M_to B (fun u hu post h => ?_)
    obtain ⟨nc, ar, hv, ch, kt, ov, tc, lv, wt, a1, a2, a3, a4, a5, a6, a7, a8, a9, a10⟩ := u
    exact br_f c (br_f e5 (br_f e6 (br_f e7 (br_t e9 h))))
  by_cases e10 : x5 = 10
  · refine sg_M_to B (fun u hu post h => ?_)
    obtain ⟨nc, ar, hv, ch, kt, ov, tc, lv, wt, a1, a2, a3, a4, a5, a6, a7, a8, a9, a10⟩ := u
    exact br_f c (br_f e5 (br_f e6 (br_f e7 (br_f e9 (br_t e10 h)))))
  by_cases e12 : x5 ≤ 12
  · refine sg_M_to A (fun u hu post h => ?_)
    obtain ⟨nc, ar, hv, ch, kt, ov, tc, lv, wt, a1, a2, a3, a4, a5, a6, a7, a8, a9, a10⟩ := u
    exact br_f c (br_f e5 (br_f e6 (br_f e7 (br_f e9 (br_f e10 (br_t e12 h))))))
  · refine sg_M_to B (fun u hu post h => ?_)
    obtain ⟨nc, ar, hv, ch, kt, ov, tc, lv, wt, a1, a2, a3, a4, a5, a6, a7, a8, a9, a10⟩ := u
    exact br_f c (br_f e5 (br_f e6 (br_f e7 (br_f e9 (br_f e10 (br_f e12 h))))))
theorem sg_made_150 {g : sg_G} (w : sg_WF g) (x3 x5 x8 x9 x10 x11 x12 z0 : Int32) : sg_M g (fun post u => match u with | (nc, ar, hv, ch, kt, ov, tc, lv, wt, a1, a2, a3, a4, a5, a6, a7, a8, a9, a10) => wL_made_150 post x3 x5 x8 x9 x10 x11 x12 z0 nc ar hv ch kt ov tc lv wt a1 a2 a3 a4 a5 a6 a7 a8 a9 a10) := by
  by_cases c : 0 ≤ x9
  · refine sg_M_to (sg_made_160 w x3 x5 x8 x9 x10 x11 x12 z0) (fun u hu post h => ?_)
    obtain ⟨nc, ar, hv, ch, kt, ov, tc, lv, wt, a1, a2, a3, a4, a5, a6, a7, a8, a9, a10⟩ := u
    exact br_t c h
  · refine sg_M_to (sg_made_160 w x3 0 x8 x9 x10 x11 x12 z0) (fun u hu post h => ?_)
    obtain ⟨nc, ar, hv, ch, kt, ov, tc, lv, wt, a1, a2, a3, a4, a5, a6, a7, a8, a9, a10⟩ := u
    exact br_f c h
theorem sg_a_made {g : sg_G} (w : sg_WF g) (p1 p2 p3 : Int32) : sg_M g (fun post u => wpL_made post u p1 p2 p3 (nI g.1)) := by
  obtain ⟨r1, h1⟩ := sg_pick w ((p2 &&& 255) - (p2 &&& 255) / nI g.1 * nI g.1) 1
  obtain ⟨r2, h2⟩ := sg_pick w (((p2 >>> ((8 : Int32) &&& 31)) &&& 255) - ((p2 >>> ((8 : Int32) &&& 31)) &&& 255) / nI g.1 * nI g.1) 1
  obtain ⟨r3, h3⟩ := sg_pick w ((p2 &&& 255) - (p2 &&& 255) / nI g.1 * nI g.1) 2
  obtain ⟨r4, h4⟩ := sg_pick w (((p2 >>> ((8 : Int32) &&& 31)) &&& 255) - ((p2 >>> ((8 : Int32) &&& 31)) &&& 255) / nI g.1 * nI g.1) 2
  obtain ⟨r5, h5⟩ := sg_pick w (((p2 >>> ((16 : Int32) &&& 31)) &&& 255) - ((p2 >>> ((16 : Int32) &&& 31)) &&& 255) / nI g.1 * nI g.1) 2
  refine sg_M_to (sg_made_150 w p3 ((p1 &&& 255) - (p1 &&& 255) / 15 * 15) ((p2 >>> ((16 : Int32) &&& 31)) &&& 255) r1 r2 r3 r4 r5) (fun u hu post h => ?_)
  obtain ⟨nc, ar, hv, ch, kt, ov, tc, lv, wt, a1, a2, a3, a4, a5, a6, a7, a8, a9, a10⟩ := u
  refine ⟨by decide, nm_e (nm_e (nm_e (nm_e ?_)))⟩
  refine h1 _ hu (fun z => wL_made_58 post p3 (nI g.1) ((p1 &&& 255) - (p1 &&& 255) / 15 * 15) (p2 &&& 255) ((p2 >>> ((8 : Int32) &&& 31)) &&& 255) ((p2 >>> ((16 : Int32) &&& 31)) &&& 255) z nc ar hv ch kt ov tc lv wt a1 a2 a3 a4 a5 a6 a7 a8 a9 a10) ?_
  unfold wL_made_58
  refine h2 _ hu (fun z => wL_made_81 post p3 (nI g.1) ((p1 &&& 255) - (p1 &&& 255) / 15 * 15) (p2 &&& 255) ((p2 >>> ((8 : Int32) &&& 31)) &&& 255) ((p2 >>> ((16 : Int32) &&& 31)) &&& 255) r1 z nc ar hv ch kt ov tc lv wt a1 a2 a3 a4 a5 a6 a7 a8 a9 a10) ?_
  unfold wL_made_81
  refine h3 _ hu (fun z => wL_made_104 post p3 (nI g.1) ((p1 &&& 255) - (p1 &&& 255) / 15 * 15) ((p2 >>> ((8 : Int32) &&& 31)) &&& 255) ((p2 >>> ((16 : Int32) &&& 31)) &&& 255) r1 r2 z nc ar hv ch kt ov tc lv wt a1 a2 a3 a4 a5 a6 a7 a8 a9 a10) ?_
  unfold wL_made_104
  refine h4 _ hu (fun z => wL_made_127 post p3 (nI g.1) ((p1 &&& 255) - (p1 &&& 255) / 15 * 15) ((p2 >>> ((16 : Int32) &&& 31)) &&& 255) r1 r2 r3 z nc ar hv ch kt ov tc lv wt a1 a2 a3 a4 a5 a6 a7 a8 a9 a10) ?_
  unfold wL_made_127
  exact h5 _ hu (fun z => wL_made_150 post p3 ((p1 &&& 255) - (p1 &&& 255) / 15 * 15) ((p2 >>> ((16 : Int32) &&& 31)) &&& 255) r1 r2 r3 r4 z nc ar hv ch kt ov tc lv wt a1 a2 a3 a4 a5 a6 a7 a8 a9 a10) h
/-! same -/
theorem sg_same_15 {g : sg_G} (w : sg_WF g) {xnc xar xhv xch xkt xov xtc xlv xwt : Int32} {xa1 xa2 xa3 xa4 xa5 xa6 xa7 xa8 xa9 xa10 : Nat → Int32} {ync yar yhv ych ykt yov ytc ylv ywt : Int32} {ya1 ya2 ya3 ya4 ya5 ya6 ya7 ya8 ya9 ya10 : Nat → Int32} {post : Int32 → Prop} (hx : sg_Rep g (xnc, xar, xhv, xch, xkt, xov, xtc, xlv, xwt, xa1, xa2, xa3, xa4, xa5, xa6, xa7, xa8, xa9, xa10)) (hy : sg_Rep g (ync, yar, yhv, ych, ykt, yov, ytc, ylv, ywt, ya1, ya2, ya3, ya4, ya5, ya6, ya7, ya8, ya9, ya10)) (hp : post 1) : ∀ d k, k + d = 25 → wL_same_15 post xnc xar xhv xch xkt xov xtc xlv xwt xa1 xa2 xa3 xa4 xa5 xa6 xa7 xa8 xa9 xa10 ync yar yhv ych ykt yov ytc ylv ywt ya1 ya2 ya3 ya4 ya5 ya6 ya7 ya8 ya9 ya10 (d + 1) (nI k) := by
  intro d
  induction d with
  | zero =>
    intro k hk
    have e : k = 25 := by omega
    subst e
    exact br_t (by decide) hp
  | succ d ih =>
    intro k hk
    obtain ⟨r1, h1⟩ := sg_q_had w (nI k)
    obtain ⟨r2, h2⟩ := sg_q_value w (nI k)
    obtain ⟨r3, h3⟩ := sg_q_times w (nI k)
    obtain ⟨r4, h4⟩ := sg_q_sort w (nI k)
    refine br_f (nI_ge (b := 25) (by omega) (by decide)) ?_
    exact h1 _ hx _ (h1 _ hy _ (br_t rfl (h2 _ hx _ (h2 _ hy _ (br_t rfl (h3 _ hx _ (h3 _ hy _ (br_t rfl (h4 _ hx _ (h4 _ hy _ (br_t rfl (nm_r (nI_1 k) (ih (k + 1) (by omega))))))))))))))
theorem sg_Rep_tc {g : sg_G} {nc ar hv ch kt ov tc lv wt : Int32} {a1 a2 a3 a4 a5 a6 a7 a8 a9 a10 : Nat → Int32} (h : sg_Rep g (nc, ar, hv, ch, kt, ov, tc, lv, wt, a1, a2, a3, a4, a5, a6, a7, a8, a9, a10)) : tc = g.2.2.2.2.2.2.2.2.2.2.2 := by
  obtain ⟨n, K, X, Y, Z, V, Q, T, H, P, O, c⟩ := g
  exact h.2.1
theorem sg_Rep_nc {g : sg_G} {nc ar hv ch kt ov tc lv wt : Int32} {a1 a2 a3 a4 a5 a6 a7 a8 a9 a10 : Nat → Int32} (h : sg_Rep g (nc, ar, hv, ch, kt, ov, tc, lv, wt, a1, a2, a3, a4, a5, a6, a7, a8, a9, a10)) : nc = nI g.1 := by
  obtain ⟨n, K, X, Y, Z, V, Q, T, H, P, O, c⟩ := g
  exact h.1
theorem sg_same {g : sg_G} (w : sg_WF g) {xnc xar xhv xch xkt xov xtc xlv xwt : Int32} {xa1 xa2 xa3 xa4 xa5 xa6 xa7 xa8 xa9 xa10 : Nat → Int32} {ync yar yhv ych ykt yov ytc ylv ywt : Int32} {ya1 ya2 ya3 ya4 ya5 ya6 ya7 ya8 ya9 ya10 : Nat → Int32} {post : Int32 → Prop} (hx : sg_Rep g (xnc, xar, xhv, xch, xkt, xov, xtc, xlv, xwt, xa1, xa2, xa3, xa4, xa5, xa6, xa7, xa8, xa9, xa10)) (hy : sg_Rep g (ync, yar, yhv, ych, ykt, yov, ytc, ylv, ywt, ya1, ya2, ya3, ya4, ya5, ya6, ya7, ya8, ya9, ya10)) (hp : post 1) : wpL_same post (xnc, xar, xhv, xch, xkt, xov, xtc, xlv, xwt, xa1, xa2, xa3, xa4, xa5, xa6, xa7, xa8, xa9, xa10, ync, yar, yhv, ych, ykt, yov, ytc, ylv, ywt, ya1, ya2, ya3, ya4, ya5, ya6, ya7, ya8, ya9, ya10) :=
  br_t (by rw [sg_Rep_tc hx, sg_Rep_tc hy]) ⟨26, sg_same_15 w hx hy hp 25 0 (by omega)⟩
end
section
/-! aside: what is made and taken away again leaves the picture -/
theorem sg_arr_congr {n : Nat} {K X Y Z K' X' Y' Z' a5 a6 : Nat → Int32} (h : ∀ i, i < n → K' i = K i ∧ X' i = X i ∧ Y' i = Y i ∧ Z' i = Z i) (ha : sg_arr n K' X' Y' Z' a5 a6) : sg_arr n K X Y Z a5 a6 := by
  obtain ⟨ht, h1, h2⟩ := ha
  refine ⟨ht, fun i hi => ?_, fun m hm i hi => ?_⟩
  · obtain ⟨e1, e2, e3, e4⟩ := h i hi
    have t := h1 i hi
    rw [e1, e2, e3, e4] at t
    exact t
  · obtain ⟨e1, e2, e3, e4⟩ := h i hi
    have t := h2 m hm i hi
    rw [e1, e2, e3, e4] at t
    exact t
/-- the picture g with one node made (and perhaps fired) and cut again -/
theorem sg_cut_back {n : Nat} {K X Y Z V Q T : Nat → Int32} {H P O : Nat → Bool} {c : Int32} (w : sg_wf n K X Y Z V) {k x y z v : Int32} {Q' : Nat → Int32} {P' : Nat → Bool} (hQ : ∀ i, i < n → Q' i = Q i) (hP : ∀ i, i < n → P' i = P i) {u : St1}
    (h : sg_Rep (sg_cut (n + 1, upd K n k, upd X n x, upd Y n y, upd Z n z, upd V n v, Q', upd T n 0, fun i => H i && !decide (i = n), P', fun i => O i && !decide (i = n), c)) u) : sg_Rep (n, K, X, Y, Z, V, Q, T, H, P, O, c) u := by
  obtain ⟨nc, ar, hv, ch, kt, ov, tc, lv, wt, a1, a2, a3, a4, a5, a6, a7, a8, a9, a10⟩ := u
  obtain ⟨e1, e2, e3, e4⟩ := h
  obtain ⟨h24, w1, w2, w3⟩ := w
  have hX : ∀ i, i < n → (if upd K n k i = 4 ∧ upd X n x i = nI (n + 1 - 1) then -1 else upd X n x i) = X i := by
    intro i hi
    rw [pk_un (by omega), pk_un (by omega)]
    rw [if_neg]
    rintro ⟨z1, z2⟩
    rcases (w1 i hi).1 z1 with q | ⟨m, hm, q⟩
    · rw [q] at z2
      exact absurd z2.symm (sg_nm1 (by omega))
    · rw [q] at z2
      have := sg_inj (by omega) (by omega) z2
      omega
  refine ⟨e1, e2, fun i hi => ?_, fun hr => sg_arr_congr (fun i hi => ⟨pk_un (by omega), hX i hi, pk_un (by omega), pk_un (by omega)⟩) (e4 hr)⟩
  obtain ⟨f1, f2, f3, f4, f5, f6, f7, f8, f9, f10⟩ := e3 i hi
  dsimp only at f2 f8 f10
  rw [hX i hi] at f2
  rw [pk_un (by omega)] at f1 f3 f4 f5 f7
  rw [hQ i hi] at f6
  rw [hP i hi] at f9
  have hne : ¬ i = n := by omega
  refine ⟨f1, f2, f3, f4, f5, f6, f7, ?_, f9, ?_⟩
  · rw [f8]
    simp [hne]
  · rw [f10]
    simp [hne]
theorem sg_cut_add {g : sg_G} (w : sg_WF g) {k x y z : Int32} {u : St1} (h : sg_Rep (sg_cut (sg_add g k x y z)) u) : sg_Rep g u := by
  obtain ⟨n, K, X, Y, Z, V, Q, T, H, P, O, c⟩ := g
  refine sg_cut_back w (fun i hi => pk_un (by omega)) (fun i hi => ?_) h
  simp [show ¬ i = n by omega]
/-- retract what was made -/
theorem sg_a_back {g : sg_G} (w : sg_WF g) {k x y z : Int32} (h24 : g.1 < 24) : sg_A (sg_add g k x y z) (fun post u => wpX_retract post u) (nI g.1) g := by
  have e := sg_add_1 g k x y z
  intro u hu post h
  have t := sg_a_retract_s (g := sg_add g k x y z) (by omega) (by omega) u hu post
  rw [e] at t
  exact t (fun v hw => h v (sg_cut_add w hw))
/-! the last checks -/
theorem sg_node_15 {g : sg_G} (w : sg_WF g) : ∃ r, ¬ 0 ≤ r ∧ sg_A g (fun post u => wpX_node post u 15 0 0 0) r g := by
  have h24 := sg_WF_24 w
  rcases Nat.lt_or_ge g.1 24 with h | h
  · exact ⟨-1, by decide, sg_a_node_kind h (Or.inr (by decide))⟩
  · exact ⟨-2, by decide, sg_a_node_full (by omega)⟩
theorem sg_node_n {g : sg_G} (w : sg_WF g) : ∃ r, ¬ 0 ≤ r ∧ sg_A g (fun post u => wpX_node post u 1 (nI g.1) 0 0) r g := by
  have h24 := sg_WF_24 w
  rcases Nat.lt_or_ge g.1 24 with h | h
  · refine ⟨-1, by decide, sg_a_node_bad h (fun u hu post hp => ?_)⟩
    obtain ⟨nc, ar, hv, ch, kt, ov, tc, lv, wt, a1, a2, a3, a4, a5, a6, a7, a8, a9, a10⟩ := u
    refine br_f (by decide) (br_f (by decide) (br_f (by decide) (br_f (by decide) (br_f (by decide) (br_f (by decide) (br_f (by decide) (br_f (by decide) (br_f (by decide) (br_f (by decide) ?_)))))))))
    exact sg_isEvent_f (sg_Rep_nc hu) (Or.inr (nI_le (Nat.le_refl _) (by omega))) ⟨sg_nb0, hp⟩
  · exact ⟨-2, by decide, sg_a_node_full (by omega)⟩
theorem sg_aside_214 {g : sg_G} (w : sg_WF g) {x4 x5 x6 : Int32} (hl0 : ¬ x4 < 0) (hl1 : x4 ≤ 1) (hv0 : sg_Q g (fun post u => wpX_value post u x5) x6) {post : Int32 → St1 → Prop} (hp : ∀ v, sg_Rep g v → post 1 v) {nc ar hv ch kt ov tc lv wt : Int32} {a1 a2 a3 a4 a5 a6 a7 a8 a9 a10 : Nat → Int32} (hu : sg_Rep g (nc, ar, hv, ch, kt, ov, tc, lv, wt, a1, a2, a3, a4, a5, a6, a7, a8, a9, a10)) : wL_aside_214 post (nI g.1) x4 x5 x6 nc ar hv ch kt ov tc lv wt a1 a2 a3 a4 a5 a6 a7 a8 a9 a10 := by
  have h24 := sg_WF_24 w
  have hnn : nI g.1 < 0 ∨ nI g.1 ≤ nI g.1 := Or.inr (nI_le (Nat.le_refl _) (by omega))
  obtain ⟨r1, hr1, a1'⟩ := sg_node_15 w
  obtain ⟨r2, hr2, a2'⟩ := sg_node_n w
  unfold wL_aside_214
  refine sg_a_level_t hl0 hl1 _ hu _ (fun v hw => ?_)
  obtain ⟨nc, ar, hv, ch, kt, ov, tc, lv, wt, a1, a2, a3, a4, a5, a6, a7, a8, a9, a10⟩ := v
  refine br_f (by decide) (sg_a_level_f (by decide) _ hw _ (fun v hw => ?_))
  obtain ⟨nc, ar, hv, ch, kt, ov, tc, lv, wt, a1, a2, a3, a4, a5, a6, a7, a8, a9, a10⟩ := v
  refine br_t rfl (sg_a_fire_f hnn _ hw _ (fun v hw => ?_))
  obtain ⟨nc, ar, hv, ch, kt, ov, tc, lv, wt, a1, a2, a3, a4, a5, a6, a7, a8, a9, a10⟩ := v
  refine br_t rfl (sg_a_tie_f w hnn _ hw _ (fun v hw => ?_))
  obtain ⟨nc, ar, hv, ch, kt, ov, tc, lv, wt, a1, a2, a3, a4, a5, a6, a7, a8, a9, a10⟩ := v
  refine br_t rfl (a1' _ hw _ (fun v hw => ?_))
  obtain ⟨nc, ar, hv, ch, kt, ov, tc, lv, wt, a1, a2, a3, a4, a5, a6, a7, a8, a9, a10⟩ := v
  refine br_f hr1 (a2' _ hw _ (fun v hw => ?_))
  obtain ⟨nc, ar, hv, ch, kt, ov, tc, lv, wt, a1, a2, a3, a4, a5, a6, a7, a8, a9, a10⟩ := v
  refine br_f hr2 (hv0 _ hw _ (br_t rfl ?_))
  exact sg_sort_f (sg_Rep_nc hw) hnn (br_t rfl (hp _ hw))
/-- with one source made: fire it, take it away, and the last checks -/
theorem sg_aside_193 {g : sg_G} (w : sg_WF g) (h24 : g.1 < 24) {x3 x4 x5 x6 : Int32} (hl0 : ¬ x4 < 0) (hl1 : x4 ≤ 1) (hv0 : sg_Q g (fun post u => wpX_value post u x5) x6) {post : Int32 → St1 → Prop} (hp : ∀ v, sg_Rep g v → post 1 v) {nc ar hv ch kt ov tc lv wt : Int32} {a1 a2 a3 a4 a5 a6 a7 a8 a9 a10 : Nat → Int32} (hu : sg_Rep (sg_add g 0 0 0 0) (nc, ar, hv, ch, kt, ov, tc, lv, wt, a1, a2, a3, a4, a5, a6, a7, a8, a9, a10)) : wL_aside_193 post (nI g.1) x3 x4 x5 x6 (nI g.1) nc ar hv ch kt ov tc lv wt a1 a2 a3 a4 a5 a6 a7 a8 a9 a10 := by
  have last : ∀ (nc ar hv ch kt ov tc lv wt : Int32) (a1 a2 a3 a4 a5 a6 a7 a8 a9 a10 : Nat → Int32), sg_Rep g (nc, ar, hv, ch, kt, ov, tc, lv, wt, a1, a2, a3, a4, a5, a6, a7, a8, a9, a10) → wL_aside_214 post (nI g.1) x4 x5 x6 nc ar hv ch kt ov tc lv wt a1 a2 a3 a4 a5 a6 a7 a8 a9 a10 := by
    intro nc ar hv ch kt ov tc lv wt a1 a2 a3 a4 a5 a6 a7 a8 a9 a10 hu
    exact sg_aside_214 w hl0 hl1 hv0 hp hu
  obtain ⟨n, K, X, Y, Z, V, Q, T, H, P, O, c⟩ := g
  have h24' : n < 24 := h24
  unfold wL_aside_193
  refine sg_a_fire_j (n := n + 1) (K := upd K n 0) (by omega) (show n < n + 1 by omega) pk_us x3 _ hu _ (fun v hw => ?_)
  obtain ⟨nc, ar, hv, ch, kt, ov, tc, lv, wt, a1, a2, a3, a4, a5, a6, a7, a8, a9, a10⟩ := v
  refine br_f (by decide) (sg_a_retract_s (by exact h24') (by exact Nat.succ_pos n) _ hw _ (fun v hw => ?_))
  have hv2 := sg_cut_back (n := n) (K := K) (X := X) (Y := Y) (Z := Z) (V := V) (Q := Q) (T := T) (H := H) (P := P) (O := O) (c := c) w (fun i hi => by rw [pk_un (by omega), pk_un (by omega)]) (fun i hi => by simp [show ¬ i = n by omega]) hw
  obtain ⟨nc, ar, hv, ch, kt, ov, tc, lv, wt, a1, a2, a3, a4, a5, a6, a7, a8, a9, a10⟩ := v
  exact br_t rfl (last nc ar hv ch kt ov tc lv wt a1 a2 a3 a4 a5 a6 a7 a8 a9 a10 hv2)
theorem sg_aside_182 {g : sg_G} (w : sg_WF g) (h24 : g.1 < 23) {x3 x4 x5 x6 : Int32} (hl0 : ¬ x4 < 0) (hl1 : x4 ≤ 1) (hv0 : sg_Q g (fun post u => wpX_value post u x5) x6) {post : Int32 → St1 → Prop} (hp : ∀ v, sg_Rep g v → post 1 v) (w1 : sg_WF (sg_add g 0 0 0 0)) {nc ar hv ch kt ov tc lv wt : Int32} {a1 a2 a3 a4 a5 a6 a7 a8 a9 a10 : Nat → Int32} (hu : sg_Rep (sg_add (sg_add g 0 0 0 0) 4 (nI g.1) x3 0) (nc, ar, hv, ch, kt, ov, tc, lv, wt, a1, a2, a3, a4, a5, a6, a7, a8, a9, a10)) : wL_aside_182 post (nI g.1) x3 x4 x5 x6 (nI g.1) (nI (g.1 + 1)) nc ar hv ch kt ov tc lv wt a1 a2 a3 a4 a5 a6 a7 a8 a9 a10 := by
  have e := sg_add_1 g 0 0 0 0
  have t := sg_a_back w1 (k := 4) (x := nI g.1) (y := x3) (z := 0) (by omega)
  rw [e] at t
  unfold wL_aside_182
  refine t _ hu _ (fun v hw => ?_)
  obtain ⟨nc, ar, hv, ch, kt, ov, tc, lv, wt, a1, a2, a3, a4, a5, a6, a7, a8, a9, a10⟩ := v
  exact br_t rfl (sg_aside_193 w (by omega) hl0 hl1 hv0 hp hw)
/-! the HOLD and the CHANGE over the source -/
theorem sg_ok_source (n : Nat) (K : Nat → Int32) : sg_ok n K n 0 0 0 0 := ⟨fun z => absurd z (by decide), fun z => absurd rfl z, fun z => absurd z (by decide), fun z => absurd z (by decide)⟩
theorem sg_ok_hold {n : Nat} (K : Nat → Int32) {m : Nat} (hm : m < n) (b : Int32) : sg_ok n K n 4 (nI m) b 0 := ⟨fun _ => Or.inr ⟨m, hm, rfl⟩, fun _ z => absurd rfl z, fun z => absurd z (by decide), fun z => absurd z (by decide)⟩
theorem sg_ok_change {n : Nat} (K : Nat → Int32) {m : Nat} (hm : m < n) : sg_ok n K n 9 (nI m) 0 0 := ⟨fun z => absurd z (by decide), fun _ _ => ⟨m, hm, rfl, fun z => absurd z (by decide)⟩, fun z => absurd z (by decide), fun z => absurd z (by decide)⟩
theorem sg_fit_hold {n : Nat} {K X Y Z V Q T : Nat → Int32} {H P O : Nat → Bool} {c : Int32} (h24 : n ≤ 24) {m : Nat} (hm : m < n) (hk : sg_cb (K m) = false) (b : Int32) : sg_Q (n, K, X, Y, Z, V, Q, T, H, P, O, c) (fun post u => wpX_operandsFit post u 4 (nI m) b 0) 1 := by
  intro u hu post h
  obtain ⟨nc, ar, hv, ch, kt, ov, tc, lv, wt, a1, a2, a3, a4, a5, a6, a7, a8, a9, a10⟩ := u
  obtain ⟨e1, e2, e3, e4⟩ := hu
  refine br_f (by decide) (br_t rfl (br_f (sg_nm1 (by omega)) (sg_isEvent_j e1 h24 hm ?_)))
  rw [(e3 m hm).1, hk]
  exact br_f (by decide) h
theorem sg_fit_change {n : Nat} {K X Y Z V Q T : Nat → Int32} {H P O : Nat → Bool} {c : Int32} (h24 : n ≤ 24) {m : Nat} (hm : m < n) (hk : sg_cb (K m) = true) : sg_Q (n, K, X, Y, Z, V, Q, T, H, P, O, c) (fun post u => wpX_operandsFit post u 9 (nI m) 0 0) 1 := by
  intro u hu post h
  obtain ⟨nc, ar, hv, ch, kt, ov, tc, lv, wt, a1, a2, a3, a4, a5, a6, a7, a8, a9, a10⟩ := u
  obtain ⟨e1, e2, e3, e4⟩ := hu
  refine br_f (by decide) (br_f (by decide) (br_f (by decide) (br_f (by decide) (br_f (by decide) (br_f (by decide) (br_f (by decide) (br_f (by decide) (br_t rfl ?_))))))))
  unfold wX_operandsFit_204
  refine sg_isCell_j e1 h24 hm ?_
  rw [(e3 m hm).1, hk]
  exact ⟨sg_nb1, h⟩
theorem sg_aside_127 {g : sg_G} (w : sg_WF g) (h24 : g.1 < 23) {x3 x4 x5 x6 : Int32} (hl0 : ¬ x4 < 0) (hl1 : x4 ≤ 1) (hv0 : sg_Q g (fun post u => wpX_value post u x5) x6) {post : Int32 → St1 → Prop} (hp : ∀ v, sg_Rep g v → post 1 v) (w1 : sg_WF (sg_add g 0 0 0 0)) (w2 : sg_WF (sg_add (sg_add g 0 0 0 0) 4 (nI g.1) x3 0)) {nc ar hv ch kt ov tc lv wt : Int32} {a1 a2 a3 a4 a5 a6 a7 a8 a9 a10 : Nat → Int32} (hu : sg_Rep (sg_add (sg_add g 0 0 0 0) 4 (nI g.1) x3 0) (nc, ar, hv, ch, kt, ov, tc, lv, wt, a1, a2, a3, a4, a5, a6, a7, a8, a9, a10)) : wL_aside_127 post (nI g.1) x3 x4 x5 x6 (nI g.1) (nI (g.1 + 1)) nc ar hv ch kt ov tc lv wt a1 a2 a3 a4 a5 a6 a7 a8 a9 a10 := by
  have f182 : ∀ (nc ar hv ch kt ov tc lv wt : Int32) (a1 a2 a3 a4 a5 a6 a7 a8 a9 a10 : Nat → Int32), sg_Rep (sg_add (sg_add g 0 0 0 0) 4 (nI g.1) x3 0) (nc, ar, hv, ch, kt, ov, tc, lv, wt, a1, a2, a3, a4, a5, a6, a7, a8, a9, a10) → wL_aside_182 post (nI g.1) x3 x4 x5 x6 (nI g.1) (nI (g.1 + 1)) nc ar hv ch kt ov tc lv wt a1 a2 a3 a4 a5 a6 a7 a8 a9 a10 := by
    intro nc ar hv ch kt ov tc lv wt a1 a2 a3 a4 a5 a6 a7 a8 a9 a10 hu
    exact sg_aside_182 w h24 hl0 hl1 hv0 hp w1 hu
  have ea : (sg_add (sg_add g 0 0 0 0) 4 (nI g.1) x3 0).1 = g.1 + 2 := by rw [sg_add_1, sg_add_1]
  unfold wL_aside_127
  refine br_f (nI_nle (by omega) (by omega)) ?_
  rcases Nat.lt_or_ge g.1 22 with hl | hl
  · have hfit : sg_Q (sg_add (sg_add g 0 0 0 0) 4 (nI g.1) x3 0) (fun post u => wpX_operandsFit post u 9 (nI (g.1 + 1)) 0 0) 1 := by
      obtain ⟨n, K, X, Y, Z, V, Q, T, H, P, O, c⟩ := g
      have hl' : n < 22 := hl
      exact sg_fit_change (n := n + 1 + 1) (by omega) (by show n + 1 < n + 1 + 1; omega) (by rw [show (n, K, X, Y, Z, V, Q, T, H, P, O, c).1 + 1 = n + 1 from rfl, pk_us]; decide)
    have hok : sg_ok (sg_add (sg_add g 0 0 0 0) 4 (nI g.1) x3 0).1 (sg_add (sg_add g 0 0 0 0) 4 (nI g.1) x3 0).2.1 (sg_add (sg_add g 0 0 0 0) 4 (nI g.1) x3 0).1 9 (nI (g.1 + 1)) 0 0 := sg_ok_change _ (by omega)
    have w3 := sg_wf_add w2 (by omega) hok
    have t := sg_a_node_ok (q := 9) (by omega) rfl (by omega) hfit hok
    have tb := sg_a_back w2 (k := 9) (x := nI (g.1 + 1)) (y := 0) (z := 0) (by omega)
    rw [ea] at t tb
    have fin : ∀ (nc ar hv ch kt ov tc lv wt : Int32) (a1 a2 a3 a4 a5 a6 a7 a8 a9 a10 : Nat → Int32), sg_Rep (sg_add (sg_add (sg_add g 0 0 0 0) 4 (nI g.1) x3 0) 9 (nI (g.1 + 1)) 0 0) (nc, ar, hv, ch, kt, ov, tc, lv, wt, a1, a2, a3, a4, a5, a6, a7, a8, a9, a10) → wpX_tie (fun r u => match u with | (nc, ar, hv, ch, kt, ov, tc, lv, wt, a1, a2, a3, a4, a5, a6, a7, a8, a9, a10) => (((r = 0 → (wpX_leads (fun r_546 => (((r_546 = 0 → (post 0 (nc, ar, hv, ch, kt, ov, tc, lv, wt, a1, a2, a3, a4, a5, a6, a7, a8, a9, a10))) ∧ (¬ r_546 = 0 → (wpX_retract (fun r_548 u => match u with | (nc, ar, hv, ch, kt, ov, tc, lv, wt, a1, a2, a3, a4, a5, a6, a7, a8, a9, a10) => (((r_548 = nI (g.1 + 2) → (wL_aside_182 post (nI g.1) x3 x4 x5 x6 (nI g.1) (nI (g.1 + 1)) nc ar hv ch kt ov tc lv wt a1 a2 a3 a4 a5 a6 a7 a8 a9 a10)) ∧ (¬ r_548 = nI (g.1 + 2) → (post 0 (nc, ar, hv, ch, kt, ov, tc, lv, wt, a1, a2, a3, a4, a5, a6, a7, a8, a9, a10)))))) (nc, ar, hv, ch, kt, ov, tc, lv, wt, a1, a2, a3, a4, a5, a6, a7, a8, a9, a10)))))) (nc, ar, hv, ch, kt, ov, tc, lv, wt, a1, a2, a3, a4, a5, a6, a7, a8, a9, a10) (nI (g.1 + 2)) (nI g.1))) ∧ (¬ r = 0 → (post 0 (nc, ar, hv, ch, kt, ov, tc, lv, wt, a1, a2, a3, a4, a5, a6, a7, a8, a9, a10)))))) (nc, ar, hv, ch, kt, ov, tc, lv, wt, a1, a2, a3, a4, a5, a6, a7, a8, a9, a10) (nI (g.1 + 1)) (nI (g.1 + 2)) := by
      intro nc ar hv ch kt ov tc lv wt a1 a2 a3 a4 a5 a6 a7 a8 a9 a10 hu
      obtain ⟨n, K, X, Y, Z, V, Q, T, H, P, O, c⟩ := g
      have hl' : n < 22 := hl
      have k1 : upd (upd (upd K n 0) (n + 1) 4) (n + 1 + 1) 9 (n + 1) = 4 := by rw [pk_un (by omega), pk_us]
      have k2 : upd (upd (upd K n 0) (n + 1) 4) (n + 1 + 1) 9 (n + 1 + 1) = 9 := pk_us
      have xx1 : upd (upd (upd X n 0) (n + 1) (nI n)) (n + 1 + 1) (nI (n + 1)) (n + 1) = nI n := by rw [pk_un (by omega), pk_us]
      have xx2 : upd (upd (upd X n 0) (n + 1) (nI n)) (n + 1 + 1) (nI (n + 1)) (n + 1 + 1) = nI (n + 1) := pk_us
      have p1 : sg_P (n + 1 + 1 + 1) (upd (upd (upd K n 0) (n + 1) 4) (n + 1 + 1) 9) (upd (upd (upd X n 0) (n + 1) (nI n)) (n + 1 + 1) (nI (n + 1))) (upd (upd (upd Y n 0) (n + 1) x3) (n + 1 + 1) 0) (upd (upd (upd Z n 0) (n + 1) 0) (n + 1 + 1) 0) (n + 1 + 1) (n + 1) := by
        refine ⟨by omega, ?_⟩
        rw [k2, xx2]
        exact ⟨by omega, by decide, by decide, Or.inl ⟨by decide, rfl⟩⟩
      have p2 : sg_P (n + 1 + 1 + 1) (upd (upd (upd K n 0) (n + 1) 4) (n + 1 + 1) 9) (upd (upd (upd X n 0) (n + 1) (nI n)) (n + 1 + 1) (nI (n + 1))) (upd (upd (upd Y n 0) (n + 1) x3) (n + 1 + 1) 0) (upd (upd (upd Z n 0) (n + 1) 0) (n + 1 + 1) 0) (n + 1) n := by
        refine ⟨by omega, ?_⟩
        rw [k1, xx1]
        exact ⟨by omega, by decide, by decide, Or.inl ⟨by decide, rfl⟩⟩
      refine sg_a_tie_no (j := n + 1) (m := n + 1 + 1) w3 (show n + 1 < n + 1 + 1 + 1 by omega) (show n + 1 + 1 < n + 1 + 1 + 1 by omega) k1 (by rw [k2]; decide) (sg_rc_1 p1) _ hu _ (fun v hw => ?_)
      obtain ⟨nc, ar, hv, ch, kt, ov, tc, lv, wt, a1, a2, a3, a4, a5, a6, a7, a8, a9, a10⟩ := v
      have hv0' := hw
      obtain ⟨e1, e2, e3, e4⟩ := hw
      refine br_t rfl (sg_leads_j (n := n + 1 + 1 + 1) (i := n + 1 + 1) (m := n) e1 (by omega) (by omega) (by omega) w3.2.1 (fun i hi => ⟨(e3 i hi).1, (e3 i hi).2.1, (e3 i hi).2.2.1, (e3 i hi).2.2.2.1⟩) (fun _ => br_f (by decide) ?_) (fun z => absurd (sg_rc_h p1 (sg_rc_1 p2)) z))
      refine tb _ hv0' _ (fun v hw => ?_)
      obtain ⟨nc, ar, hv, ch, kt, ov, tc, lv, wt, a1, a2, a3, a4, a5, a6, a7, a8, a9, a10⟩ := v
      exact br_t rfl (f182 nc ar hv ch kt ov tc lv wt a1 a2 a3 a4 a5 a6 a7 a8 a9 a10 hw)
    refine t _ hu _ (fun v hw => ?_)
    obtain ⟨nc, ar, hv, ch, kt, ov, tc, lv, wt, a1, a2, a3, a4, a5, a6, a7, a8, a9, a10⟩ := v
    exact br_f (nI_nle (by omega) (by omega)) (fin nc ar hv ch kt ov tc lv wt a1 a2 a3 a4 a5 a6 a7 a8 a9 a10 hw)
  · refine sg_a_node_full (by omega) _ hu _ (fun v hw => ?_)
    obtain ⟨nc, ar, hv, ch, kt, ov, tc, lv, wt, a1, a2, a3, a4, a5, a6, a7, a8, a9, a10⟩ := v
    exact br_t (by decide) (f182 nc ar hv ch kt ov tc lv wt a1 a2 a3 a4 a5 a6 a7 a8 a9 a10 hw)
theorem sg_aside_49 {g : sg_G} (w : sg_WF g) (h24 : g.1 < 24) {x3 x4 x5 x6 : Int32} (hl0 : ¬ x4 < 0) (hl1 : x4 ≤ 1) (hv0 : sg_Q g (fun post u => wpX_value post u x5) x6) {post : Int32 → St1 → Prop} (hp : ∀ v, sg_Rep g v → post 1 v) (w1 : sg_WF (sg_add g 0 0 0 0)) {nc ar hv ch kt ov tc lv wt : Int32} {a1 a2 a3 a4 a5 a6 a7 a8 a9 a10 : Nat → Int32} (hu : sg_Rep (sg_add g 0 0 0 0) (nc, ar, hv, ch, kt, ov, tc, lv, wt, a1, a2, a3, a4, a5, a6, a7, a8, a9, a10)) : wL_aside_49 post (nI g.1) x3 x4 x5 x6 (nI g.1) (nI g.1) (nI g.1) nc ar hv ch kt ov tc lv wt a1 a2 a3 a4 a5 a6 a7 a8 a9 a10 := by
  have ea := sg_add_1 g 0 0 0 0
  unfold wL_aside_49
  refine br_t rfl (br_f (nI_pos (by omega)) ?_)
  rcases Nat.lt_or_ge g.1 23 with hl | hl
  · have hfit : sg_Q (sg_add g 0 0 0 0) (fun post u => wpX_operandsFit post u 4 (nI g.1) x3 0) 1 := by
      obtain ⟨n, K, X, Y, Z, V, Q, T, H, P, O, c⟩ := g
      have hl' : n < 23 := hl
      exact sg_fit_hold (n := n + 1) (by omega) (show n < n + 1 by omega) (by rw [pk_us]; decide) x3
    have hok : sg_ok (sg_add g 0 0 0 0).1 (sg_add g 0 0 0 0).2.1 (sg_add g 0 0 0 0).1 4 (nI g.1) x3 0 := sg_ok_hold _ (by omega) x3
    have w2 := sg_wf_add w1 (by omega) hok
    have t := sg_a_node_ok (q := 4) (by omega) rfl (by omega) hfit hok
    rw [ea] at t
    refine t _ hu _ (fun v hw => ?_)
    obtain ⟨nc, ar, hv, ch, kt, ov, tc, lv, wt, a1, a2, a3, a4, a5, a6, a7, a8, a9, a10⟩ := v
    refine br_f (fun z => by have := sg_inj (b := 23) (by omega) (by decide) z; omega) ?_
    rw [nI_1]
    unfold wL_aside_86
    refine br_t rfl (br_f (nI_nle (by omega) (by omega)) ?_)
    have f127 : wL_aside_127 post (nI g.1) x3 x4 x5 x6 (nI g.1) (nI (g.1 + 1)) nc ar hv ch kt ov tc lv wt a1 a2 a3 a4 a5 a6 a7 a8 a9 a10 := sg_aside_127 w hl hl0 hl1 hv0 hp w1 w2 hw
    clear hv0 hp t hok hfit
    obtain ⟨n, K, X, Y, Z, V, Q, T, H, P, O, c⟩ := g
    have hl' : n < 23 := hl
    obtain ⟨e1, e2, e3, e4⟩ := hw
    have k1 : upd (upd K n 0) (n + 1) 4 (n + 1) = 4 := pk_us
    obtain ⟨f1, f2, f3, f4, f5, f6⟩ := e3 (n + 1) (by show n + 1 < n + 1 + 1; omega)
    refine sg_value_j (n := n + 1 + 1) (j := n + 1) e1 (by omega) (by omega) ?_
    have c1 : a1 (n + 1) = 4 := by rw [f1]; exact k1
    have c7 : a7 (n + 1) = x3 := by
      rw [f5]
      show upd (upd V n (sg_nv 0 0 0 0 V)) (n + 1) (sg_nv 4 (nI n) x3 0 (upd V n (sg_nv 0 0 0 0 V))) (n + 1) = x3
      rw [pk_us]
      rfl
    rw [c1, c7]
    refine br_t rfl ?_
    refine sg_leads_j (n := n + 1 + 1) (i := n + 1) (m := n) e1 (by omega) (by omega) (by omega) w2.2.1 (fun i hi => ⟨(e3 i hi).1, (e3 i hi).2.1, (e3 i hi).2.2.1, (e3 i hi).2.2.2.1⟩) (fun _ => br_f (by decide) ?_) (fun z => absurd (sg_rc_1 ?_) z)
    · refine sg_sort_j (n := n + 1 + 1) (j := n + 1) e1 (by omega) (by omega) ?_
      rw [c1]
      exact br_t rfl f127
    · refine ⟨by omega, ?_⟩
      have x1 : upd (upd X n 0) (n + 1) (nI n) (n + 1) = nI n := pk_us
      rw [k1, x1]
      exact ⟨by omega, by decide, by decide, Or.inl ⟨by decide, rfl⟩⟩
  · refine sg_a_node_full (by omega) _ hu _ (fun v hw => ?_)
    obtain ⟨nc, ar, hv, ch, kt, ov, tc, lv, wt, a1, a2, a3, a4, a5, a6, a7, a8, a9, a10⟩ := v
    refine br_t (by rw [show g.1 = 23 by omega]; rfl) ?_
    unfold wL_aside_86
    refine br_t rfl (br_t (by decide) ?_)
    unfold wL_aside_127
    exact br_t (by decide) (sg_aside_193 w h24 hl0 hl1 hv0 hp hw)
theorem sg_aside {g : sg_G} (w : sg_WF g) (p2 p3 : Int32) {p4 : Int32} (hl0 : ¬ p4 < 0) (hl1 : p4 ≤ 1) : sg_A g (fun post u => wpL_aside post u (nI g.1) p2 p3 p4) 1 g := by
  have h24 := sg_WF_24 w
  have key : ∀ (z0 : Int32) (post : Int32 → St1 → Prop), (∀ v, sg_Rep g v → post 1 v) → ∀ (nc ar hv ch kt ov tc lv wt : Int32) (a1 a2 a3 a4 a5 a6 a7 a8 a9 a10 : Nat → Int32), sg_Rep g (nc, ar, hv, ch, kt, ov, tc, lv, wt, a1, a2, a3, a4, a5, a6, a7, a8, a9, a10) → wL_aside_15 post (nI g.1) p3 p4 z0 nc ar hv ch kt ov tc lv wt a1 a2 a3 a4 a5 a6 a7 a8 a9 a10 := by
    intro z0 post hp nc ar hv ch kt ov tc lv wt a1 a2 a3 a4 a5 a6 a7 a8 a9 a10 hu
    obtain ⟨r0, hr0⟩ := sg_q_value w z0
    unfold wL_aside_15
    refine hr0 _ hu _ ?_
    rcases Nat.lt_or_ge g.1 24 with hl | hl
    · have hok : sg_ok g.1 g.2.1 g.1 0 0 0 0 := sg_ok_source _ _
      have w1 := sg_wf_add w hl hok
      refine sg_a_node_ok (q := 0) (by omega) rfl hl sg_fit_0 hok _ hu _ (fun v hw => ?_)
      obtain ⟨nc, ar, hv, ch, kt, ov, tc, lv, wt, a1, a2, a3, a4, a5, a6, a7, a8, a9, a10⟩ := v
      exact br_f (fun z => by have := sg_inj (b := 24) (by omega) (by decide) z; omega) (sg_aside_49 w hl hl0 hl1 hr0 hp w1 hw)
    · refine sg_a_node_full (by omega) _ hu _ (fun v hw => ?_)
      obtain ⟨nc, ar, hv, ch, kt, ov, tc, lv, wt, a1, a2, a3, a4, a5, a6, a7, a8, a9, a10⟩ := v
      refine br_t (by rw [show g.1 = 24 by omega]; rfl) ?_
      unfold wL_aside_49
      exact br_t rfl (br_t (by decide) (sg_aside_214 w hl0 hl1 hr0 hp hw))
  intro u hu post hp
  obtain ⟨nc, ar, hv, ch, kt, ov, tc, lv, wt, a1, a2, a3, a4, a5, a6, a7, a8, a9, a10⟩ := u
  exact br_c (fun e => key 0 post hp nc ar hv ch kt ov tc lv wt a1 a2 a3 a4 a5 a6 a7 a8 a9 a10 hu) (fun e => ⟨e, key _ post hp nc ar hv ch kt ov tc lv wt a1 a2 a3 a4 a5 a6 a7 a8 a9 a10 hu⟩)
end
section
/-! the law -/
theorem sg_law_366 {g : sg_G} (w : sg_WF g) {post : Int32 → Prop} {L : Nat} {xs : Nat → Int32} {J : (Int32 → Int32 → Int32 → Int32 → Int32 → Int32 → Int32 → Int32 → Int32 → Int32 → Int32 → (Nat → Int32) → (Nat → Int32) → (Nat → Int32) → (Nat → Int32) → (Nat → Int32) → (Nat → Int32) → (Nat → Int32) → (Nat → Int32) → (Nat → Int32) → (Nat → Int32) → Int32 → Int32 → Int32 → Int32 → Int32 → Int32 → Int32 → Int32 → Int32 → (Nat → Int32) → (Nat → Int32) → (Nat → Int32) → (Nat → Int32) → (Nat → Int32) → (Nat → Int32) → (Nat → Int32) → (Nat → Int32) → (Nat → Int32) → (Nat → Int32) → Prop)} {i : Nat} {x9 : Int32} {kc ks : Nat} {xnc xar xhv xch xkt xov xtc xlv xwt : Int32} {xa1 xa2 xa3 xa4 xa5 xa6 xa7 xa8 xa9 xa10 : Nat → Int32} {ync yar yhv ych ykt yov ytc ylv ywt : Int32} {ya1 ya2 ya3 ya4 ya5 ya6 ya7 ya8 ya9 ya10 : Nat → Int32} (hx : sg_Rep g (xnc, xar, xhv, xch, xkt, xov, xtc, xlv, xwt, xa1, xa2, xa3, xa4, xa5, xa6, xa7, xa8, xa9, xa10)) (hy : sg_Rep g (ync, yar, yhv, ych, ykt, yov, ytc, ylv, ywt, ya1, ya2, ya3, ya4, ya5, ya6, ya7, ya8, ya9, ya10)) (hJ : J (nI g.1) (nI (i + 3)) xnc xar xhv xch xkt xov xtc xlv xwt xa1 xa2 xa3 xa4 xa5 xa6 xa7 xa8 xa9 xa10 ync yar yhv ych ykt yov ytc ylv ywt ya1 ya2 ya3 ya4 ya5 ya6 ya7 ya8 ya9 ya10) :
    ∀ d v, v + d = g.1 → wL_law_366 post L xs J (nI g.1) (nI i) x9 kc ks xnc xar xhv xch xkt xov xtc xlv xwt xa1 xa2 xa3 xa4 xa5 xa6 xa7 xa8 xa9 xa10 ync yar yhv ych ykt yov ytc ylv ywt ya1 ya2 ya3 ya4 ya5 ya6 ya7 ya8 ya9 ya10 (d + 1) (nI v) := by
  have h24 := sg_WF_24 w
  intro d
  induction d with
  | zero =>
    intro v hv
    exact br_t (nI_le (by omega) (by omega)) (nm_r (nI_add i 3) hJ)
  | succ d ih =>
    intro v hv
    obtain ⟨r, hr⟩ := sg_q_leads w (nI v) x9
    exact br_f (nI_ge (by omega) (by omega)) (hr _ hx _ (hr _ hy _ (br_t rfl (nm_r (nI_1 v) (ih (v + 1) (by omega))))))
theorem sg_law_303 {g : sg_G} (w : sg_WF g) {post : Int32 → Prop} {L : Nat} {xs : Nat → Int32} {J31 : (Int32 → Int32 → Int32 → Int32 → Int32 → Int32 → Int32 → Int32 → Int32 → Int32 → Int32 → (Nat → Int32) → (Nat → Int32) → (Nat → Int32) → (Nat → Int32) → (Nat → Int32) → (Nat → Int32) → (Nat → Int32) → (Nat → Int32) → (Nat → Int32) → (Nat → Int32) → Int32 → Int32 → Int32 → Int32 → Int32 → Int32 → Int32 → Int32 → Int32 → (Nat → Int32) → (Nat → Int32) → (Nat → Int32) → (Nat → Int32) → (Nat → Int32) → (Nat → Int32) → (Nat → Int32) → (Nat → Int32) → (Nat → Int32) → (Nat → Int32) → Prop)} {J : (Int32 → Int32 → Int32 → Int32 → Int32 → Int32 → Int32 → Int32 → Int32 → Int32 → (Nat → Int32) → (Nat → Int32) → (Nat → Int32) → (Nat → Int32) → (Nat → Int32) → (Nat → Int32) → (Nat → Int32) → (Nat → Int32) → (Nat → Int32) → (Nat → Int32) → Int32 → Int32 → Int32 → Int32 → Int32 → Int32 → Int32 → Int32 → Int32 → (Nat → Int32) → (Nat → Int32) → (Nat → Int32) → (Nat → Int32) → (Nat → Int32) → (Nat → Int32) → (Nat → Int32) → (Nat → Int32) → (Nat → Int32) → (Nat → Int32) → Prop)} {t : Nat} {x3 x4 x5 x6 x9 z0 : Int32} {kc ks : Nat} {xnc xar xhv xch xkt xov xtc xlv xwt : Int32} {xa1 xa2 xa3 xa4 xa5 xa6 xa7 xa8 xa9 xa10 : Nat → Int32} {ync yar yhv ych ykt yov ytc ylv ywt : Int32} {ya1 ya2 ya3 ya4 ya5 ya6 ya7 ya8 ya9 ya10 : Nat → Int32} (hx : sg_Rep g (xnc, xar, xhv, xch, xkt, xov, xtc, xlv, xwt, xa1, xa2, xa3, xa4, xa5, xa6, xa7, xa8, xa9, xa10)) (hy : sg_Rep g (ync, yar, yhv, ych, ykt, yov, ytc, ylv, ywt, ya1, ya2, ya3, ya4, ya5, ya6, ya7, ya8, ya9, ya10))
    (hJ : ∀ (h : sg_G) (xnc xar xhv xch xkt xov xtc xlv xwt : Int32) (xa1 xa2 xa3 xa4 xa5 xa6 xa7 xa8 xa9 xa10 : Nat → Int32) (ync yar yhv ych ykt yov ytc ylv ywt : Int32) (ya1 ya2 ya3 ya4 ya5 ya6 ya7 ya8 ya9 ya10 : Nat → Int32), sg_WF h → h.1 = g.1 → sg_Rep h (xnc, xar, xhv, xch, xkt, xov, xtc, xlv, xwt, xa1, xa2, xa3, xa4, xa5, xa6, xa7, xa8, xa9, xa10) → sg_Rep h (ync, yar, yhv, ych, ykt, yov, ytc, ylv, ywt, ya1, ya2, ya3, ya4, ya5, ya6, ya7, ya8, ya9, ya10) → J (nI (t + 1)) xnc xar xhv xch xkt xov xtc xlv xwt xa1 xa2 xa3 xa4 xa5 xa6 xa7 xa8 xa9 xa10 ync yar yhv ych ykt yov ytc ylv ywt ya1 ya2 ya3 ya4 ya5 ya6 ya7 ya8 ya9 ya10) :
    wL_law_303 post L xs J31 J x3 x4 x5 x6 x9 (nI t) z0 kc ks xnc xar xhv xch xkt xov xtc xlv xwt xa1 xa2 xa3 xa4 xa5 xa6 xa7 xa8 xa9 xa10 ync yar yhv ych ykt yov ytc ylv ywt ya1 ya2 ya3 ya4 ya5 ya6 ya7 ya8 ya9 ya10 := by
  obtain ⟨r1, g1, w1, e1, a1⟩ := sg_a_fire w z0 ((x5 >>> (nI t &&& 31)) - (x5 >>> (nI t &&& 31)) / 50 * 50)
  obtain ⟨r2, g2, w2, e2, a2⟩ := sg_a_commit w1
  unfold wL_law_303
  refine ⟨by decide, a1 _ hx _ (fun v hx => ?_)⟩
  obtain ⟨xnc, xar, xhv, xch, xkt, xov, xtc, xlv, xwt, xa1, xa2, xa3, xa4, xa5, xa6, xa7, xa8, xa9, xa10⟩ := v
  refine ⟨by decide, a1 _ hy _ (fun v hy => ?_)⟩
  obtain ⟨ync, yar, yhv, ych, ykt, yov, ytc, ylv, ywt, ya1, ya2, ya3, ya4, ya5, ya6, ya7, ya8, ya9, ya10⟩ := v
  refine br_t rfl (a2 _ hx _ (fun v hx => ?_))
  obtain ⟨xnc, xar, xhv, xch, xkt, xov, xtc, xlv, xwt, xa1, xa2, xa3, xa4, xa5, xa6, xa7, xa8, xa9, xa10⟩ := v
  refine a2 _ hy _ (fun v hy => ?_)
  obtain ⟨ync, yar, yhv, ych, ykt, yov, ytc, ylv, ywt, ya1, ya2, ya3, ya4, ya5, ya6, ya7, ya8, ya9, ya10⟩ := v
  exact br_t rfl (sg_same w2 hx hy (br_f (by decide) (nm_r (nI_1 t) (hJ g2 xnc xar xhv xch xkt xov xtc xlv xwt xa1 xa2 xa3 xa4 xa5 xa6 xa7 xa8 xa9 xa10 ync yar yhv ych ykt yov ytc ylv ywt ya1 ya2 ya3 ya4 ya5 ya6 ya7 ya8 ya9 ya10 w2 (by rw [e2, e1]) hx hy))))
theorem sg_law_276 {n : Nat} {post : Int32 → Prop} {L : Nat} {xs : Nat → Int32} {J : (Int32 → Int32 → Int32 → Int32 → Int32 → Int32 → Int32 → Int32 → Int32 → Int32 → Int32 → (Nat → Int32) → (Nat → Int32) → (Nat → Int32) → (Nat → Int32) → (Nat → Int32) → (Nat → Int32) → (Nat → Int32) → (Nat → Int32) → (Nat → Int32) → (Nat → Int32) → Int32 → Int32 → Int32 → Int32 → Int32 → Int32 → Int32 → Int32 → Int32 → (Nat → Int32) → (Nat → Int32) → (Nat → Int32) → (Nat → Int32) → (Nat → Int32) → (Nat → Int32) → (Nat → Int32) → (Nat → Int32) → (Nat → Int32) → (Nat → Int32) → Prop)} {i : Nat} {x5 x6 x9 : Int32} {kc ks : Nat}
    (hJ : ∀ (h : sg_G) (xnc xar xhv xch xkt xov xtc xlv xwt : Int32) (xa1 xa2 xa3 xa4 xa5 xa6 xa7 xa8 xa9 xa10 : Nat → Int32) (ync yar yhv ych ykt yov ytc ylv ywt : Int32) (ya1 ya2 ya3 ya4 ya5 ya6 ya7 ya8 ya9 ya10 : Nat → Int32), sg_WF h → sg_Rep h (xnc, xar, xhv, xch, xkt, xov, xtc, xlv, xwt, xa1, xa2, xa3, xa4, xa5, xa6, xa7, xa8, xa9, xa10) → sg_Rep h (ync, yar, yhv, ych, ykt, yov, ytc, ylv, ywt, ya1, ya2, ya3, ya4, ya5, ya6, ya7, ya8, ya9, ya10) → J (nI h.1) (nI (i + 3)) xnc xar xhv xch xkt xov xtc xlv xwt xa1 xa2 xa3 xa4 xa5 xa6 xa7 xa8 xa9 xa10 ync yar yhv ych ykt yov ytc ylv ywt ya1 ya2 ya3 ya4 ya5 ya6 ya7 ya8 ya9 ya10) :
    ∀ d t (g : sg_G) (xnc xar xhv xch xkt xov xtc xlv xwt : Int32) (xa1 xa2 xa3 xa4 xa5 xa6 xa7 xa8 xa9 xa10 : Nat → Int32) (ync yar yhv ych ykt yov ytc ylv ywt : Int32) (ya1 ya2 ya3 ya4 ya5 ya6 ya7 ya8 ya9 ya10 : Nat → Int32), t + d = 3 → sg_WF g → g.1 = n → sg_Rep g (xnc, xar, xhv, xch, xkt, xov, xtc, xlv, xwt, xa1, xa2, xa3, xa4, xa5, xa6, xa7, xa8, xa9, xa10) → sg_Rep g (ync, yar, yhv, ych, ykt, yov, ytc, ylv, ywt, ya1, ya2, ya3, ya4, ya5, ya6, ya7, ya8, ya9, ya10) → wL_law_276 post L xs J (nI n) (nI i) x5 x6 x9 kc ks (d + 1) (nI t) xnc xar xhv xch xkt xov xtc xlv xwt xa1 xa2 xa3 xa4 xa5 xa6 xa7 xa8 xa9 xa10 ync yar yhv ych ykt yov ytc ylv ywt ya1 ya2 ya3 ya4 ya5 ya6 ya7 ya8 ya9 ya10 := by
  intro d
  induction d with
  | zero =>
    intro t g xnc xar xhv xch xkt xov xtc xlv xwt xa1 xa2 xa3 xa4 xa5 xa6 xa7 xa8 xa9 xa10 ync yar yhv ych ykt yov ytc ylv ywt ya1 ya2 ya3 ya4 ya5 ya6 ya7 ya8 ya9 ya10 ht w hn hx hy
    have e : t = 3 := by omega
    subst e
    subst hn
    exact br_t (by decide) ⟨g.1 + 1, sg_law_366 w hx hy (hJ g xnc xar xhv xch xkt xov xtc xlv xwt xa1 xa2 xa3 xa4 xa5 xa6 xa7 xa8 xa9 xa10 ync yar yhv ych ykt yov ytc ylv ywt ya1 ya2 ya3 ya4 ya5 ya6 ya7 ya8 ya9 ya10 w hx hy) g.1 0 (by omega)⟩
  | succ d ih =>
    intro t g xnc xar xhv xch xkt xov xtc xlv xwt xa1 xa2 xa3 xa4 xa5 xa6 xa7 xa8 xa9 xa10 ync yar yhv ych ykt yov ytc ylv ywt ya1 ya2 ya3 ya4 ya5 ya6 ya7 ya8 ya9 ya10 ht w hn hx hy
    refine br_f (nI_ge (b := 3) (by omega) (by decide)) (br_c (fun e => ?_) (fun e => ⟨e, ?_⟩))
    · exact sg_law_303 w hx hy (fun h xnc xar xhv xch xkt xov xtc xlv xwt xa1 xa2 xa3 xa4 xa5 xa6 xa7 xa8 xa9 xa10 ync yar yhv ych ykt yov ytc ylv ywt ya1 ya2 ya3 ya4 ya5 ya6 ya7 ya8 ya9 ya10 w' e' hx' hy' => ih (t + 1) h xnc xar xhv xch xkt xov xtc xlv xwt xa1 xa2 xa3 xa4 xa5 xa6 xa7 xa8 xa9 xa10 ync yar yhv ych ykt yov ytc ylv ywt ya1 ya2 ya3 ya4 ya5 ya6 ya7 ya8 ya9 ya10 (by omega) w' (by rw [e', hn]) hx' hy')
    · exact sg_law_303 w hx hy (fun h xnc xar xhv xch xkt xov xtc xlv xwt xa1 xa2 xa3 xa4 xa5 xa6 xa7 xa8 xa9 xa10 ync yar yhv ych ykt yov ytc ylv ywt ya1 ya2 ya3 ya4 ya5 ya6 ya7 ya8 ya9 ya10 w' e' hx' hy' => ih (t + 1) h xnc xar xhv xch xkt xov xtc xlv xwt xa1 xa2 xa3 xa4 xa5 xa6 xa7 xa8 xa9 xa10 ync yar yhv ych ykt yov ytc ylv ywt ya1 ya2 ya3 ya4 ya5 ya6 ya7 ya8 ya9 ya10 (by omega) w' (by rw [e', hn]) hx' hy')
theorem sg_law_258 {g : sg_G} (w : sg_WF g) {post : Int32 → Prop} {L : Nat} {xs : Nat → Int32} {J : (Int32 → Int32 → Int32 → Int32 → Int32 → Int32 → Int32 → Int32 → Int32 → Int32 → Int32 → (Nat → Int32) → (Nat → Int32) → (Nat → Int32) → (Nat → Int32) → (Nat → Int32) → (Nat → Int32) → (Nat → Int32) → (Nat → Int32) → (Nat → Int32) → (Nat → Int32) → Int32 → Int32 → Int32 → Int32 → Int32 → Int32 → Int32 → Int32 → Int32 → (Nat → Int32) → (Nat → Int32) → (Nat → Int32) → (Nat → Int32) → (Nat → Int32) → (Nat → Int32) → (Nat → Int32) → (Nat → Int32) → (Nat → Int32) → (Nat → Int32) → Prop)} {i : Nat} {x5 x6 x9 : Int32} {kc ks : Nat} {xnc xar xhv xch xkt xov xtc xlv xwt : Int32} {xa1 xa2 xa3 xa4 xa5 xa6 xa7 xa8 xa9 xa10 : Nat → Int32} {ync yar yhv ych ykt yov ytc ylv ywt : Int32} {ya1 ya2 ya3 ya4 ya5 ya6 ya7 ya8 ya9 ya10 : Nat → Int32} (hx : sg_Rep g (xnc, xar, xhv, xch, xkt, xov, xtc, xlv, xwt, xa1, xa2, xa3, xa4, xa5, xa6, xa7, xa8, xa9, xa10)) (hy : sg_Rep g (ync, yar, yhv, ych, ykt, yov, ytc, ylv, ywt, ya1, ya2, ya3, ya4, ya5, ya6, ya7, ya8, ya9, ya10))
    (hJ : ∀ (h : sg_G) (xnc xar xhv xch xkt xov xtc xlv xwt : Int32) (xa1 xa2 xa3 xa4 xa5 xa6 xa7 xa8 xa9 xa10 : Nat → Int32) (ync yar yhv ych ykt yov ytc ylv ywt : Int32) (ya1 ya2 ya3 ya4 ya5 ya6 ya7 ya8 ya9 ya10 : Nat → Int32), sg_WF h → sg_Rep h (xnc, xar, xhv, xch, xkt, xov, xtc, xlv, xwt, xa1, xa2, xa3, xa4, xa5, xa6, xa7, xa8, xa9, xa10) → sg_Rep h (ync, yar, yhv, ych, ykt, yov, ytc, ylv, ywt, ya1, ya2, ya3, ya4, ya5, ya6, ya7, ya8, ya9, ya10) → J (nI h.1) (nI (i + 3)) xnc xar xhv xch xkt xov xtc xlv xwt xa1 xa2 xa3 xa4 xa5 xa6 xa7 xa8 xa9 xa10 ync yar yhv ych ykt yov ytc ylv ywt ya1 ya2 ya3 ya4 ya5 ya6 ya7 ya8 ya9 ya10) :
    wL_law_258 post L xs J (nI g.1) (nI i) x5 x6 1 x9 kc ks xnc xar xhv xch xkt xov xtc xlv xwt xa1 xa2 xa3 xa4 xa5 xa6 xa7 xa8 xa9 xa10 ync yar yhv ych ykt yov ytc ylv ywt ya1 ya2 ya3 ya4 ya5 ya6 ya7 ya8 ya9 ya10 := by
  unfold wL_law_258
  exact br_f (by decide) (sg_same w hx hy (br_f (by decide) ⟨4, sg_law_276 hJ 3 0 g xnc xar xhv xch xkt xov xtc xlv xwt xa1 xa2 xa3 xa4 xa5 xa6 xa7 xa8 xa9 xa10 ync yar yhv ych ykt yov ytc ylv ywt ya1 ya2 ya3 ya4 ya5 ya6 ya7 ya8 ya9 ya10 (by omega) w rfl hx hy⟩))
theorem sg_law_105 {g : sg_G} (w : sg_WF g) {post : Int32 → Prop} {L : Nat} {xs : Nat → Int32} {J : (Int32 → Int32 → Int32 → Int32 → Int32 → Int32 → Int32 → Int32 → Int32 → Int32 → Int32 → (Nat → Int32) → (Nat → Int32) → (Nat → Int32) → (Nat → Int32) → (Nat → Int32) → (Nat → Int32) → (Nat → Int32) → (Nat → Int32) → (Nat → Int32) → (Nat → Int32) → Int32 → Int32 → Int32 → Int32 → Int32 → Int32 → Int32 → Int32 → Int32 → (Nat → Int32) → (Nat → Int32) → (Nat → Int32) → (Nat → Int32) → (Nat → Int32) → (Nat → Int32) → (Nat → Int32) → (Nat → Int32) → (Nat → Int32) → (Nat → Int32) → Prop)} {i : Nat} {x5 x6 x8 z0 : Int32} {kc ks : Nat} (hi : vp_in (nI i) L) {xnc xar xhv xch xkt xov xtc xlv xwt : Int32} {xa1 xa2 xa3 xa4 xa5 xa6 xa7 xa8 xa9 xa10 : Nat → Int32} {ync yar yhv ych ykt yov ytc ylv ywt : Int32} {ya1 ya2 ya3 ya4 ya5 ya6 ya7 ya8 ya9 ya10 : Nat → Int32} (hx : sg_Rep g (xnc, xar, xhv, xch, xkt, xov, xtc, xlv, xwt, xa1, xa2, xa3, xa4, xa5, xa6, xa7, xa8, xa9, xa10)) (hy : sg_Rep g (ync, yar, yhv, ych, ykt, yov, ytc, ylv, ywt, ya1, ya2, ya3, ya4, ya5, ya6, ya7, ya8, ya9, ya10))
    (hJ : ∀ (h : sg_G) (xnc xar xhv xch xkt xov xtc xlv xwt : Int32) (xa1 xa2 xa3 xa4 xa5 xa6 xa7 xa8 xa9 xa10 : Nat → Int32) (ync yar yhv ych ykt yov ytc ylv ywt : Int32) (ya1 ya2 ya3 ya4 ya5 ya6 ya7 ya8 ya9 ya10 : Nat → Int32), sg_WF h → sg_Rep h (xnc, xar, xhv, xch, xkt, xov, xtc, xlv, xwt, xa1, xa2, xa3, xa4, xa5, xa6, xa7, xa8, xa9, xa10) → sg_Rep h (ync, yar, yhv, ych, ykt, yov, ytc, ylv, ywt, ya1, ya2, ya3, ya4, ya5, ya6, ya7, ya8, ya9, ya10) → J (nI h.1) (nI (i + 3)) xnc xar xhv xch xkt xov xtc xlv xwt xa1 xa2 xa3 xa4 xa5 xa6 xa7 xa8 xa9 xa10 ync yar yhv ych ykt yov ytc ylv ywt ya1 ya2 ya3 ya4 ya5 ya6 ya7 ya8 ya9 ya10) :
    wL_law_105 post L xs J (nI g.1) (nI i) x5 x6 x8 z0 kc ks xnc xar xhv xch xkt xov xtc xlv xwt xa1 xa2 xa3 xa4 xa5 xa6 xa7 xa8 xa9 xa10 ync yar yhv ych ykt yov ytc ylv ywt ya1 ya2 ya3 ya4 ya5 ya6 ya7 ya8 ya9 ya10 := by
  have h24 := sg_WF_24 w
  unfold wL_law_105
  refine br_c (fun e => ?_) (fun e => br_c (fun e1 => ?_) (fun e1 => ⟨hi, ?_⟩))
  · obtain ⟨r, h, w', hr, a⟩ := sg_a_retract w
    have h24' := sg_WF_24 w'
    refine a _ hx _ (fun v hx => ?_)
    obtain ⟨xnc, xar, xhv, xch, xkt, xov, xtc, xlv, xwt, xa1, xa2, xa3, xa4, xa5, xa6, xa7, xa8, xa9, xa10⟩ := v
    refine a _ hy _ (fun v hy => ?_)
    obtain ⟨ync, yar, yhv, ych, ykt, yov, ytc, ylv, ywt, ya1, ya2, ya3, ya4, ya5, ya6, ya7, ya8, ya9, ya10⟩ := v
    refine br_t rfl ?_
    unfold wL_law_132
    rcases hr with ⟨hr, hh⟩ | hr
    · refine br_t (by rw [hr]; decide) ?_
      unfold wL_law_142
      rw [← hh]
      exact sg_law_258 w' hx hy hJ
    · refine br_f (by rw [hr]; exact nI_pos (by omega)) ?_
      unfold wL_law_142
      rw [hr]
      exact sg_law_258 w' hx hy hJ
  · refine br_c (fun e2 => ?_) (fun e2 => ⟨e2, ?_⟩)
    · obtain ⟨r, h, w', hh, a⟩ := sg_a_tie w z0 0
      unfold wL_law_170
      refine a _ hx _ (fun v hx => ?_)
      obtain ⟨xnc, xar, xhv, xch, xkt, xov, xtc, xlv, xwt, xa1, xa2, xa3, xa4, xa5, xa6, xa7, xa8, xa9, xa10⟩ := v
      refine br_t e2 ?_
      unfold wL_law_192
      refine a _ hy _ (fun v hy => ?_)
      obtain ⟨ync, yar, yhv, ych, ykt, yov, ytc, ylv, ywt, ya1, ya2, ya3, ya4, ya5, ya6, ya7, ya8, ya9, ya10⟩ := v
      refine br_t rfl ?_
      unfold wL_law_203
      rw [← hh]
      exact sg_law_258 w' hx hy hJ
    · obtain ⟨r, h, w', hh, a⟩ := sg_a_tie w z0 ((x6 &&& 255) - (x6 &&& 255) / nI g.1 * nI g.1)
      unfold wL_law_170
      refine a _ hx _ (fun v hx => ?_)
      obtain ⟨xnc, xar, xhv, xch, xkt, xov, xtc, xlv, xwt, xa1, xa2, xa3, xa4, xa5, xa6, xa7, xa8, xa9, xa10⟩ := v
      refine br_f e2 ⟨e2, ?_⟩
      unfold wL_law_192
      refine a _ hy _ (fun v hy => ?_)
      obtain ⟨ync, yar, yhv, ych, ykt, yov, ytc, ylv, ywt, ya1, ya2, ya3, ya4, ya5, ya6, ya7, ya8, ya9, ya10⟩ := v
      refine br_t rfl ?_
      unfold wL_law_203
      rw [← hh]
      exact sg_law_258 w' hx hy hJ
  · obtain ⟨r, h, w', hr, a⟩ := sg_a_made w (xs (nI i).toNatClampNeg) x5 x6
    have h24' := sg_WF_24 w'
    refine a _ hx _ (fun v hx => ?_)
    obtain ⟨xnc, xar, xhv, xch, xkt, xov, xtc, xlv, xwt, xa1, xa2, xa3, xa4, xa5, xa6, xa7, xa8, xa9, xa10⟩ := v
    refine ⟨hi, a _ hy _ (fun v hy => ?_)⟩
    obtain ⟨ync, yar, yhv, ych, ykt, yov, ytc, ylv, ywt, ya1, ya2, ya3, ya4, ya5, ya6, ya7, ya8, ya9, ya10⟩ := v
    refine br_t rfl ?_
    unfold wL_law_246
    rcases hr with ⟨hr, hh⟩ | ⟨hr, hh⟩
    · refine br_t hr ?_
      rw [← hh]
      exact sg_law_258 w' hx hy hJ
    · refine br_f (by rw [hr]; exact nI_pos (by omega)) (nm_r (e' := nI h.1) (by rw [hr, nI_1, hh]) ?_)
      exact sg_law_258 w' hx hy hJ
theorem sg_lim {L i : Nat} (hL : L ≤ 260) (hi : i ≤ 300) : ((Int32.ofNat L) - 3 < nI i) ↔ L < i + 3 := by
  have h1 : ((Int32.ofNat L) - 3).toInt = (L : Int) - 3 := pk_sub_toInt (a := L) (b := 3) (by omega) (by omega)
  rw [Int32.lt_iff_toInt_lt, h1, nI_toInt (show i < 2 ^ 31 by omega)]
  omega
theorem sg_lev : ∀ x : Int32, ¬ (x &&& 1) < 0 ∧ (x &&& 1) ≤ 1 := by
  intro x
  obtain ⟨j, hj, e⟩ := pk_andE x (m := 1) 1 (by decide)
  rw [e]
  exact ⟨nI_pos (by omega), nI_le (b := 1) (by omega) (by decide)⟩
theorem sg_law_31 {post : Int32 → Prop} {L : Nat} {xs : Nat → Int32} {kc ks : Nat} (hL : L ≤ 260) (hp : post 1) :
    ∀ d i (g : sg_G) (xnc xar xhv xch xkt xov xtc xlv xwt : Int32) (xa1 xa2 xa3 xa4 xa5 xa6 xa7 xa8 xa9 xa10 : Nat → Int32) (ync yar yhv ych ykt yov ytc ylv ywt : Int32) (ya1 ya2 ya3 ya4 ya5 ya6 ya7 ya8 ya9 ya10 : Nat → Int32), L ≤ i + d → i ≤ L + 3 → sg_WF g → sg_Rep g (xnc, xar, xhv, xch, xkt, xov, xtc, xlv, xwt, xa1, xa2, xa3, xa4, xa5, xa6, xa7, xa8, xa9, xa10) → sg_Rep g (ync, yar, yhv, ych, ykt, yov, ytc, ylv, ywt, ya1, ya2, ya3, ya4, ya5, ya6, ya7, ya8, ya9, ya10) → wL_law_31 post L xs kc ks (d + 1) (nI g.1) (nI i) xnc xar xhv xch xkt xov xtc xlv xwt xa1 xa2 xa3 xa4 xa5 xa6 xa7 xa8 xa9 xa10 ync yar yhv ych ykt yov ytc ylv ywt ya1 ya2 ya3 ya4 ya5 ya6 ya7 ya8 ya9 ya10 := by
  intro d
  induction d with
  | zero =>
    intro i g xnc xar xhv xch xkt xov xtc xlv xwt xa1 xa2 xa3 xa4 xa5 xa6 xa7 xa8 xa9 xa10 ync yar yhv ych ykt yov ytc ylv ywt ya1 ya2 ya3 ya4 ya5 ya6 ya7 ya8 ya9 ya10 h1 h2 w hx hy
    exact br_t ((sg_lim hL (by omega)).mpr (by omega)) hp
  | succ d ih =>
    intro i g xnc xar xhv xch xkt xov xtc xlv xwt xa1 xa2 xa3 xa4 xa5 xa6 xa7 xa8 xa9 xa10 ync yar yhv ych ykt yov ytc ylv ywt ya1 ya2 ya3 ya4 ya5 ya6 ya7 ya8 ya9 ya10 h1 h2 w hx hy
    refine br_c (fun _ => hp) (fun e => ?_)
    rw [sg_lim hL (by omega)] at e
    have hii : vp_in (nI i) L := vp_in_nI (by omega) (by omega)
    refine ⟨by rw [nI_1]; exact vp_in_nI (by omega) (by omega), nm_e ⟨by rw [show (2 : Int32) = nI 2 from rfl, nI_add]; exact vp_in_nI (by omega) (by omega), nm_e ?_⟩⟩
    refine sg_aside w _ _ (sg_lev _).1 (sg_lev _).2 _ hy _ (fun v hy => ?_)
    obtain ⟨ync, yar, yhv, ych, ykt, yov, ytc, ylv, ywt, ya1, ya2, ya3, ya4, ya5, ya6, ya7, ya8, ya9, ya10⟩ := v
    refine br_f (by decide) ⟨hii, nm_e (br_c (fun e3 => ?_) (fun e3 => ⟨e3, ?_⟩))⟩
    · exact sg_law_105 w hii hx hy (fun h xnc xar xhv xch xkt xov xtc xlv xwt xa1 xa2 xa3 xa4 xa5 xa6 xa7 xa8 xa9 xa10 ync yar yhv ych ykt yov ytc ylv ywt ya1 ya2 ya3 ya4 ya5 ya6 ya7 ya8 ya9 ya10 w' hx' hy' => ih (i + 3) h xnc xar xhv xch xkt xov xtc xlv xwt xa1 xa2 xa3 xa4 xa5 xa6 xa7 xa8 xa9 xa10 ync yar yhv ych ykt yov ytc ylv ywt ya1 ya2 ya3 ya4 ya5 ya6 ya7 ya8 ya9 ya10 (by omega) (by omega) w' hx' hy')
    · exact sg_law_105 w hii hx hy (fun h xnc xar xhv xch xkt xov xtc xlv xwt xa1 xa2 xa3 xa4 xa5 xa6 xa7 xa8 xa9 xa10 ync yar yhv ych ykt yov ytc ylv ywt ya1 ya2 ya3 ya4 ya5 ya6 ya7 ya8 ya9 ya10 w' hx' hy' => ih (i + 3) h xnc xar xhv xch xkt xov xtc xlv xwt xa1 xa2 xa3 xa4 xa5 xa6 xa7 xa8 xa9 xa10 ync yar yhv ych ykt yov ytc ylv ywt ya1 ya2 ya3 ya4 ya5 ya6 ya7 ya8 ya9 ya10 (by omega) (by omega) w' hx' hy')
/-- the empty graph -/
def sg_g0 : sg_G := (0, fun _ => 0, fun _ => 0, fun _ => 0, fun _ => 0, fun _ => 0, fun _ => 0, fun _ => 0, fun _ => false, fun _ => false, fun _ => false, 0)
theorem sg_wf0 : sg_WF sg_g0 := ⟨by omega, fun i hi => absurd hi (by omega), ⟨fun _ => 0, 0, fun i hi => absurd hi (by omega)⟩, fun i hi => absurd hi (by omega)⟩
theorem sg_rep0 : sg_Rep sg_g0 (0, 0, 0, 0, 0, 0, 0, 1, 0, (fun _ => 0), (fun _ => 0), (fun _ => 0), (fun _ => 0), (fun _ => 0), (fun _ => 0), (fun _ => 0), (fun _ => 0), (fun _ => 0), (fun _ => 0)) := ⟨rfl, rfl, fun i hi => absurd hi (by omega), fun z => absurd rfl z⟩
theorem sg_init {post : St1 → Prop} (h : post (0, 0, 0, 0, 0, 0, 0, 1, 0, (fun _ => 0), (fun _ => 0), (fun _ => 0), (fun _ => 0), (fun _ => 0), (fun _ => 0), (fun _ => 0), (fun _ => 0), (fun _ => 0), (fun _ => 0))) : wpX_init post 10 240 (0, 0, 0, 0, 0, 0, 0, 0, 0) :=
  ⟨by omega, by omega, by omega, by omega, by omega, by omega, by omega, by omega, by omega, by omega, by omega, by omega, by omega, by omega, by omega, by omega, by omega, by omega, by omega, by omega, h⟩
theorem i_vc (xs : Nat → Int32) (L : Nat) (hL : L ≤ 260) : wpL_law (fun r => r = 1) L xs := by
  refine ⟨10, 240, by omega, by omega, sg_init ⟨by omega, by omega, 10, 240, by omega, by omega, sg_init ?_⟩⟩
  refine sg_a_level_t (g := sg_g0) (by decide) (by decide) _ sg_rep0 _ (fun v hx => ?_)
  obtain ⟨xnc, xar, xhv, xch, xkt, xov, xtc, xlv, xwt, xa1, xa2, xa3, xa4, xa5, xa6, xa7, xa8, xa9, xa10⟩ := v
  exact br_f (by decide) ⟨L + 1, sg_law_31 (post := fun r => r = 1) hL rfl L 0 sg_g0 xnc xar xhv xch xkt xov xtc xlv xwt xa1 xa2 xa3 xa4 xa5 xa6 xa7 xa8 xa9 xa10 0 0 0 0 0 0 0 1 0 (fun _ => 0) (fun _ => 0) (fun _ => 0) (fun _ => 0) (fun _ => 0) (fun _ => 0) (fun _ => 0) (fun _ => 0) (fun _ => 0) (fun _ => 0) (by omega) (by omega) sg_wf0 hx sg_rep0⟩
end
