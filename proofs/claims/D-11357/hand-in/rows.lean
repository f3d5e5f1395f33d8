section
/-! part 01: numbers. A beginning is (k, q): k bits, q their number, q < 2 ^ k; its first address is q * 2 ^ (8 - k) -/
/-- its place in its node -/
def rt_pl (k q : Nat) : Nat := if k < 4 then 2 ^ k - 1 + q else 2 ^ (k - 4) - 1 + q % 2 ^ (k - 4)
/-- the places of an address in the top node -/
def rt_tp (x : Int32) : Int32 := ((1 ||| ((2 : Int32) <<< ((x >>> ((7 : Int32) &&& 31)) &&& 31))) ||| ((8 : Int32) <<< ((x >>> ((6 : Int32) &&& 31)) &&& 31))) ||| ((128 : Int32) <<< ((x >>> ((5 : Int32) &&& 31)) &&& 31))
/-- the places of an address in its low node, by its last four bits -/
def rt_lp (y : Int32) : Int32 := (((1 ||| ((2 : Int32) <<< ((y >>> ((3 : Int32) &&& 31)) &&& 31))) ||| ((8 : Int32) <<< ((y >>> ((2 : Int32) &&& 31)) &&& 31))) ||| ((128 : Int32) <<< ((y >>> ((1 : Int32) &&& 31)) &&& 31))) ||| ((1 : Int32) <<< ((15 + y) &&& 31))
/-- the places below a limit: low node, top node -/
def rt_lm (x : Int32) : Int32 := ((1 : Int32) <<< ((((1 : Int32) <<< ((x - 4) &&& 31)) - 1) &&& 31)) - 1
def rt_tm (x : Int32) : Int32 := ((1 : Int32) <<< ((((1 : Int32) <<< (x &&& 31)) - 1) &&& 31)) - 1
theorem rt_plT {k q : Nat} (h : k < 4) : rt_pl k q = 2 ^ k - 1 + q := by
  unfold rt_pl
  rw [if_pos h]
theorem rt_plL (j q : Nat) : rt_pl (j + 4) q = 2 ^ j - 1 + q % 2 ^ j := by
  unfold rt_pl
  rw [if_neg (by omega), Nat.add_sub_cancel]
theorem rt_p15 : ∀ k, k < 4 → ∀ r, r < 2 ^ k → 2 ^ k - 1 + r < 15 := by decide +kernel
theorem rt_p31 : ∀ j, j < 5 → ∀ r, r < 2 ^ j → 2 ^ j - 1 + r < 31 := by decide +kernel
/-- the place that the program computes -/
theorem rt_pcT : ∀ k, k < 4 → ∀ a, a < 256 → (((1 : Int32) <<< (nI k &&& 31)) - 1) + (nI a >>> ((8 - nI k) &&& 31)) = nI (rt_pl k (a / 2 ^ (8 - k))) := by decide +kernel
theorem rt_pcL : ∀ j, j < 5 → ∀ a, a < 256 → (((1 : Int32) <<< ((nI (j + 4) - 4) &&& 31)) - 1) + ((nI a &&& 15) >>> ((4 - (nI (j + 4) - 4)) &&& 31)) = nI (rt_pl (j + 4) (a / 2 ^ (8 - (j + 4)))) := by decide +kernel
/-- one bit -/
theorem rt_sh : ∀ p, p < 31 → (1 : Int32) <<< (nI p &&& 31) = nI (2 ^ p) := by decide +kernel
theorem rt_nz : ∀ p, p < 31 → ¬ nI (2 ^ p) = 0 := by decide +kernel
theorem rt_bz : ∀ p, p < 31 → ((0 : Int32) >>> (nI p &&& 31)) &&& 1 = 0 := by decide +kernel
theorem rt_bp : ∀ p, p < 31 → ∀ i, i < 31 → ((nI (2 ^ p) >>> (nI i &&& 31)) &&& 1 = 0 ↔ i ≠ p) := by decide +kernel
/-- how many bits stand at a place -/
theorem rt_ba : ∀ j, j < 5 → ∀ r, r < 2 ^ j → ∀ i, i < j + 1 → (nI (2 ^ j - 1 + r) < ((1 : Int32) <<< ((nI i + 1) &&& 31)) - 1 ↔ i = j) := by decide +kernel
/-- one beginning against an address: low node, top node; at the limit 9, and below its own length -/
theorem rt_lo9 : ∀ j, j < 5 → ∀ r, r < 2 ^ j → ∀ o, o < 16 → (nI (2 ^ (2 ^ j - 1 + r)) &&& rt_lp (nI o)) &&& rt_lm 9 = if o / 2 ^ (4 - j) = r then nI (2 ^ (2 ^ j - 1 + r)) else 0 := by decide +kernel
theorem rt_loK : ∀ j, j < 5 → 0 < j → ∀ r, r < 2 ^ j → ∀ o, o < 16 → (nI (2 ^ (2 ^ j - 1 + r)) &&& rt_lp (nI o)) &&& rt_lm (nI (j + 4)) = 0 := by decide +kernel
theorem rt_to9 : ∀ k, k < 4 → ∀ q, q < 2 ^ k → ∀ a, a < 256 → (nI (2 ^ (2 ^ k - 1 + q)) &&& rt_tp (nI a)) &&& 32767 = if a / 2 ^ (8 - k) = q then nI (2 ^ (2 ^ k - 1 + q)) else 0 := by decide +kernel
theorem rt_toK : ∀ k, k < 4 → ∀ q, q < 2 ^ k → ∀ a, a < 256 → (nI (2 ^ (2 ^ k - 1 + q)) &&& rt_tp (nI a)) &&& rt_tm (nI k) = 0 := by decide +kernel
/-- what the law and isBeginning compute -/
theorem rt_fst : ∀ k, k < 9 → ∀ t, t < 256 → nI t &&& ((65280 : Int32) >>> (nI k &&& 31)) = nI (t / 2 ^ (8 - k) * 2 ^ (8 - k)) := by decide +kernel
theorem rt_siz : ∀ k, k < 9 → (256 : Int32) >>> (nI k &&& 31) = nI (2 ^ (8 - k)) := by decide +kernel
theorem rt_beg0 : ∀ k, k < 9 → ∀ q, q < 2 ^ k → nI (q * 2 ^ (8 - k)) &&& ((255 : Int32) >>> (nI k &&& 31)) = 0 := by decide +kernel
theorem rt_lst0 : ∀ k, k < 9 → ∀ q, q < 2 ^ k → nI (q * 2 ^ (8 - k)) ||| ((255 : Int32) >>> (nI k &&& 31)) = nI (q * 2 ^ (8 - k) + 2 ^ (8 - k) - 1) := by decide +kernel
theorem rt_by : ∀ g, g < 100 → (nI g).toInt8.toInt32 = nI g := by decide +kernel
theorem rt_pw : ∀ k, k < 9 → 2 ^ k * 2 ^ (8 - k) = 256 ∧ 0 < 2 ^ (8 - k) := by decide +kernel
theorem rt_m1 {n : Nat} (h : n < 2 ^ 31) : ¬ (-1 : Int32) = nI n := by
  intro e
  have h1 : (-1 : Int32).toInt = (nI n).toInt := by rw [e]
  rw [nI_toInt h] at h1
  have h2 : (-1 : Int32).toInt = -1 := by decide
  omega
theorem rt_m1' {n : Nat} (h : n < 2 ^ 31) : ¬ nI n = (-1 : Int32) := fun e => rt_m1 h e.symm
theorem rt_10 : ¬ (1 : Int32) = 0 := by decide
/-- low node: an address begins so iff its node and its last four bits do -/
theorem rt_low : ∀ j, j < 5 → ∀ a q : Nat, a / 2 ^ (8 - (j + 4)) = q ↔ a / 16 = q / 2 ^ j ∧ a % 16 / 2 ^ (4 - j) = q % 2 ^ j := by
  intro j hj a q
  match j, hj with
  | 0, _ => show a / 16 = q ↔ a / 16 = q / 1 ∧ a % 16 / 16 = q % 1; omega
  | 1, _ => show a / 8 = q ↔ a / 16 = q / 2 ∧ a % 16 / 8 = q % 2; omega
  | 2, _ => show a / 4 = q ↔ a / 16 = q / 4 ∧ a % 16 / 4 = q % 4; omega
  | 3, _ => show a / 2 = q ↔ a / 16 = q / 8 ∧ a % 16 / 2 = q % 8; omega
  | 4, _ => show a / 1 = q ↔ a / 16 = q / 16 ∧ a % 16 / 1 = q % 16; omega
/-- a beginning's addresses are an interval -/
theorem rt_div {a q s : Nat} (hs : 0 < s) : a / s = q ↔ q * s ≤ a ∧ a < q * s + s := by
  constructor
  · intro h
    have h1 := Nat.div_add_mod a s
    have h2 := Nat.mod_lt a hs
    rw [h, Nat.mul_comm] at h1
    omega
  · intro h
    apply Nat.le_antisymm
    · apply Nat.le_of_lt_succ
      apply (Nat.div_lt_iff_lt_mul hs).mpr
      rw [Nat.succ_mul]
      exact h.2
    · exact (Nat.le_div_iff_mul_le hs).mpr h.1
end
section
/-! part 02: the small methods, and looking up in a table that holds one beginning (b = true) or none (b = false) -/
theorem rt_hi {post : Int32 → Prop} {p : Nat} (hp : p < 31) (h : post (nI p)) : wpX_highest post () (nI (2 ^ p)) := by
  have main : ∀ d, p + d < 31 → ∀ n, d < n → wX_highest_3 post (nI (2 ^ p)) n (nI (p + d)) := by
    intro d
    induction d with
    | zero =>
      intro _ n hn
      obtain ⟨m, rfl⟩ : ∃ m, n = m + 1 := ⟨n - 1, by omega⟩
      exact br_c (fun _ => h) (fun _ => br_f (fun z => absurd rfl ((rt_bp p hp p hp).mp z)) h)
    | succ d ih =>
      intro hd n hn
      obtain ⟨m, rfl⟩ : ∃ m, n = m + 1 := ⟨n - 1, by omega⟩
      exact pk_le (p + (d + 1)) 0 (fun z => absurd z (by omega)) (fun _ => br_t ((rt_bp p hp (p + (d + 1)) hd).mpr (by omega)) (nm_r (pk_m1 (p + d)) (ih (by omega) m (by omega))))
  have h30 := main (30 - p) (by omega) 31 (by omega)
  rw [show p + (30 - p) = 30 by omega] at h30
  exact ⟨31, h30⟩
theorem rt_at {post : Int32 → Prop} {j r : Nat} (hj : j < 5) (hr : r < 2 ^ j) (h : post (nI j)) : wpX_bitsAt post () (nI (2 ^ j - 1 + r)) :=
  pk_loop (σ := Unit) (fun n i _ => wX_bitsAt_2 post (nI (2 ^ j - 1 + r)) n (nI i)) (fun _ _ => True) j 0 () (by omega) trivial
    (fun n _ _ => br_t ((rt_ba j hj r hr j (by omega)).mpr rfl) h)
    (fun n i _ hi _ hw => br_f (fun z => absurd ((rt_ba j hj r hr i (by omega)).mp z) (by omega)) (nm_r (nI_1 i) (hw () trivial)))
theorem rt_place {post : Int32 → Prop} {a k : Nat} (ha : a < 256) (hk : k < 9) (hp : post (nI (rt_pl k (a / 2 ^ (8 - k))))) : wpX_place post () (nI a) (nI k) := by
  unfold wpX_place
  rcases Nat.lt_or_ge k 4 with h | h
  · refine pk_le 4 k (fun z => absurd z (by omega)) (fun _ => ?_)
    rw [rt_pcT k h a ha]
    exact hp
  · obtain ⟨j, rfl⟩ : ∃ j, k = j + 4 := ⟨k - 4, by omega⟩
    refine pk_le 4 (j + 4) (fun _ => nm_e ?_) (fun z => absurd z (by omega))
    rw [rt_pcL j (by omega) a ha]
    exact hp
theorem rt_86z {post : Int32 → Prop} {z0 z1 T c : Int32} {G B H : Nat → Int32} (hz : z1 &&& z0 = 0) (hp : post (-1)) : wX_bitsBelow_86 post z0 z1 T c G B H := by
  unfold wX_bitsBelow_86
  exact nm_r hz (br_t rfl hp)
theorem rt_86h {post : Int32 → Prop} {z0 z1 T c : Int32} {G B H : Nat → Int32} {j r : Nat} (hj : j < 5) (hr : r < 2 ^ j) (hz : z1 &&& z0 = nI (2 ^ (2 ^ j - 1 + r))) (hp : post (nI j)) : wX_bitsBelow_86 post z0 z1 T c G B H := by
  unfold wX_bitsBelow_86
  exact nm_r hz (br_f (rt_nz _ (rt_p31 j hj r hr)) (rt_hi (rt_p31 j hj r hr) (rt_at hj hr hp)))
theorem rt_34h {post : Int32 → Prop} {x1 x2 z0 T c : Int32} {G B H : Nat → Int32} {j r : Nat} (hj : j < 5) (hr : r < 2 ^ j) (hz : z0 = nI (2 ^ (2 ^ j - 1 + r))) (hp : post (4 + nI j)) : wX_bitsBelow_34 post x1 x2 z0 T c G B H := by
  subst hz
  unfold wX_bitsBelow_34
  exact br_f (rt_nz _ (rt_p31 j hj r hr)) (rt_hi (rt_p31 j hj r hr) (rt_at hj hr hp))
theorem rt_34t {post : Int32 → Prop} {x1 x2 z0 T c : Int32} {G B H : Nat → Int32} (hz : z0 = 0) (h4 : 4 ≤ x2) (h : wX_bitsBelow_86 post 32767 (T &&& rt_tp x1) T c G B H) : wX_bitsBelow_34 post x1 x2 z0 T c G B H := by
  subst hz
  unfold wX_bitsBelow_34
  exact br_t rfl (nm_e (br_t h4 h))
theorem rt_34m {post : Int32 → Prop} {x1 x2 z0 T c : Int32} {G B H : Nat → Int32} (hz : z0 = 0) (h4 : ¬ 4 ≤ x2) (h : wX_bitsBelow_86 post (rt_tm x2) (T &&& rt_tp x1) T c G B H) : wX_bitsBelow_34 post x1 x2 z0 T c G B H := by
  subst hz
  unfold wX_bitsBelow_34
  exact br_t rfl (nm_e (br_f h4 h))
theorem rt_s4 {a : Nat} (ha : a < 256) : nI a >>> ((4 : Int32) &&& 31) = nI (a / 16) := pk_shrN (by omega) _ 4 (by decide)
theorem rt_bbL {post : Int32 → Prop} {lim T c : Int32} {G B H : Nat → Int32} {a : Nat} (ha : a < 256) (hl : ¬ lim ≤ 4)
    (h : wX_bitsBelow_34 post (nI a) lim ((B (a / 16) &&& rt_lp (nI (a % 16))) &&& rt_lm lim) T c G B H) : wpX_bitsBelow post (T, c, G, B, H) (nI a) lim := by
  have e15 : nI a &&& 15 = nI (a % 16) := pk_andN (by omega) 4 (by decide)
  unfold wpX_bitsBelow
  rw [rt_s4 ha, nI_clamp (by omega)]
  exact br_f hl ⟨pk_in (a / 16) 16 (by omega), nm_r e15 h⟩
theorem rt_bbT {post : Int32 → Prop} {lim T c : Int32} {G B H : Nat → Int32} {a : Nat} (hl : lim ≤ 4)
    (h : wX_bitsBelow_34 post (nI a) lim 0 T c G B H) : wpX_bitsBelow post (T, c, G, B, H) (nI a) lim := by
  unfold wpX_bitsBelow
  exact br_t hl h
/-- the state: one beginning (k, q) with the goal g if b, else none -/
def rt_ok (b : Bool) (k q g : Nat) (T : Int32) (G B H : Nat → Int32) : Prop :=
  (k < 4 → T = (if b = true then nI (2 ^ rt_pl k q) else 0) ∧ (∀ n, B n = 0) ∧ (b = true → G (rt_pl k q) = nI g)) ∧
  (4 ≤ k → T = 0 ∧ (∀ n, B n = if b = true ∧ n = q / 2 ^ (k - 4) then nI (2 ^ rt_pl k q) else 0) ∧ (b = true → H (q / 2 ^ (k - 4) * 31 + rt_pl k q) = nI g))
theorem rt_z2 (x y : Int32) : ((0 : Int32) &&& x) &&& y = 0 := by rw [Int32.zero_and, Int32.zero_and]
/-- bitsBelow(a, 9) -/
theorem rt_bb9 {post : Int32 → Prop} {b : Bool} {k q g a : Nat} {T c : Int32} {G B H : Nat → Int32} (hk : k < 9) (hq : q < 2 ^ k) (ok : rt_ok b k q g T G B H) (ha : a < 256)
    (h1 : b = true ∧ a / 2 ^ (8 - k) = q → post (nI k)) (h0 : ¬ (b = true ∧ a / 2 ^ (8 - k) = q) → post (-1)) : wpX_bitsBelow post (T, c, G, B, H) (nI a) 9 := by
  refine rt_bbL ha (by decide) ?_
  rcases Nat.lt_or_ge k 4 with h | h
  · obtain ⟨hT, hB, _⟩ := ok.1 h
    rw [rt_plT h] at hT
    refine rt_34t (by rw [hB]; exact rt_z2 _ _) (by decide) ?_
    by_cases hb : b = true
    · rw [if_pos hb] at hT
      have e := rt_to9 k h q hq a ha
      by_cases hm : a / 2 ^ (8 - k) = q
      · rw [if_pos hm] at e
        exact rt_86h (by omega) hq (by rw [hT]; exact e) (h1 ⟨hb, hm⟩)
      · rw [if_neg hm] at e
        exact rt_86z (by rw [hT]; exact e) (h0 (fun z => hm z.2))
    · rw [if_neg hb] at hT
      exact rt_86z (by rw [hT]; exact rt_z2 _ _) (h0 (fun z => hb z.1))
  · obtain ⟨j, rfl⟩ : ∃ j, k = j + 4 := ⟨k - 4, by omega⟩
    have hj : j < 5 := by omega
    obtain ⟨hT, hB, _⟩ := ok.2 h
    have hr : q % 2 ^ j < 2 ^ j := Nat.mod_lt _ (Nat.two_pow_pos j)
    have hB' := hB (a / 16)
    rw [rt_plL, Nat.add_sub_cancel] at hB'
    have e := rt_lo9 j hj (q % 2 ^ j) hr (a % 16) (by omega)
    have hl := rt_low j hj a q
    have top : (¬ (b = true ∧ a / 2 ^ (8 - (j + 4)) = q)) → wX_bitsBelow_86 post 32767 (T &&& rt_tp (nI a)) T c G B H := fun z => rt_86z (by rw [hT]; exact rt_z2 _ _) (h0 z)
    by_cases hb : b = true ∧ a / 16 = q / 2 ^ j
    · rw [if_pos hb] at hB'
      by_cases hm : a % 16 / 2 ^ (4 - j) = q % 2 ^ j
      · rw [if_pos hm] at e
        refine rt_34h hj hr (by rw [hB']; exact e) ?_
        rw [show (4 : Int32) + nI j = nI (j + 4) from by rw [show (4 : Int32) = nI 4 from rfl, nI_add, Nat.add_comm]]
        exact h1 ⟨hb.1, hl.mpr ⟨hb.2, hm⟩⟩
      · rw [if_neg hm] at e
        exact rt_34t (by rw [hB']; exact e) (by decide) (top (fun z => hm (hl.mp z.2).2))
    · rw [if_neg hb] at hB'
      exact rt_34t (by rw [hB']; exact rt_z2 _ _) (by decide) (top (fun z => hb ⟨z.1, (hl.mp z.2).1⟩))
/-- bitsBelow(a, k): nothing is shorter -/
theorem rt_bbK {post : Int32 → Prop} {b : Bool} {k q g a : Nat} {T c : Int32} {G B H : Nat → Int32} (hk : k < 9) (hq : q < 2 ^ k) (ok : rt_ok b k q g T G B H) (ha : a < 256)
    (h0 : post (-1)) : wpX_bitsBelow post (T, c, G, B, H) (nI a) (nI k) := by
  rcases Nat.lt_or_ge k 4 with h | h
  · obtain ⟨hT, _, _⟩ := ok.1 h
    rw [rt_plT h] at hT
    refine rt_bbT (nI_le (b := 4) (by omega) (by decide)) (rt_34m rfl (nI_ge (b := 4) h (by decide)) (rt_86z ?_ h0))
    by_cases hb : b = true
    · rw [if_pos hb] at hT
      rw [hT]
      exact rt_toK k h q hq a ha
    · rw [if_neg hb] at hT
      rw [hT]
      exact rt_z2 _ _
  · obtain ⟨j, rfl⟩ : ∃ j, k = j + 4 := ⟨k - 4, by omega⟩
    have hj : j < 5 := by omega
    obtain ⟨hT, hB, _⟩ := ok.2 h
    have top : wX_bitsBelow_86 post 32767 (T &&& rt_tp (nI a)) T c G B H := rt_86z (by rw [hT]; exact rt_z2 _ _) h0
    have h4 : (4 : Int32) ≤ nI (j + 4) := nI_le (a := 4) (by omega) (by omega)
    rcases Nat.eq_zero_or_pos j with z | z
    · subst z
      exact rt_bbT (by decide) (rt_34t rfl h4 top)
    · have hr : q % 2 ^ j < 2 ^ j := Nat.mod_lt _ (Nat.two_pow_pos j)
      have hB' := hB (a / 16)
      rw [rt_plL, Nat.add_sub_cancel] at hB'
      refine rt_bbL ha (nI_ge (a := 4) (by omega) (by omega)) (rt_34t ?_ h4 top)
      by_cases hb : b = true ∧ a / 16 = q / 2 ^ j
      · rw [if_pos hb] at hB'
        rw [hB']
        exact rt_loK j hj z (q % 2 ^ j) hr (a % 16) (by omega)
      · rw [if_neg hb] at hB'
        rw [hB']
        exact rt_z2 _ _
theorem rt_nod {j a q : Nat} (hj : j < 5) (hm : a / 2 ^ (8 - (j + 4)) = q) : a / 16 = q / 2 ^ j := ((rt_low j hj a q).mp hm).1
theorem rt_i31 {n p : Nat} : nI n * 31 + nI p = nI (n * 31 + p) := by rw [show (31 : Int32) = nI 31 from rfl, pk_mul, nI_add]
/-- goalOf, at an address that begins so -/
theorem rt_gO {post : Int32 → Prop} {k q g a : Nat} {T c : Int32} {G B H : Nat → Int32} (hk : k < 9) (hq : q < 2 ^ k) (ok : rt_ok true k q g T G B H) (ha : a < 256) (hm : a / 2 ^ (8 - k) = q)
    (hp : post (nI g)) : wpX_goalOf post (T, c, G, B, H) (nI a) (nI k) := by
  unfold wpX_goalOf
  refine rt_place ha hk ?_
  rw [hm, rt_s4 ha, rt_i31]
  rcases Nat.lt_or_ge k 4 with h | h
  · have hb : rt_pl k q < 15 := by rw [rt_plT h]; exact rt_p15 k h q hq
    refine pk_le 4 k (fun z => absurd z (by omega)) (fun _ => ⟨pk_in (rt_pl k q) 15 hb, ?_⟩)
    rw [nI_clamp (by omega), (ok.1 h).2.2 rfl]
    exact hp
  · obtain ⟨j, rfl⟩ : ∃ j, k = j + 4 := ⟨k - 4, by omega⟩
    have hj : j < 5 := by omega
    have hb : rt_pl (j + 4) q < 31 := by rw [rt_plL]; exact rt_p31 j hj _ (Nat.mod_lt _ (Nat.two_pow_pos j))
    have h3 := (ok.2 h).2.2 rfl
    rw [Nat.add_sub_cancel, ← rt_nod hj hm] at h3
    refine pk_le 4 (j + 4) (fun _ => ⟨pk_in (a / 16 * 31 + rt_pl (j + 4) q) 496 (by omega), ?_⟩) (fun z => absurd z (by omega))
    rw [nI_clamp (by omega), h3]
    exact hp
/-- has -/
theorem rt_has {post : Int32 → Prop} {b : Bool} {k q g a : Nat} {T c : Int32} {G B H : Nat → Int32} (hk : k < 9) (hq : q < 2 ^ k) (ok : rt_ok b k q g T G B H) (ha : a < 256) (hm : a / 2 ^ (8 - k) = q)
    (h1 : b = true → post 1) (h0 : ¬ b = true → post 0) : wpX_has post (T, c, G, B, H) (nI a) (nI k) := by
  unfold wpX_has
  refine rt_place ha hk ?_
  rw [hm, rt_s4 ha, nI_clamp (by omega)]
  have fin : ∀ z : Int32, rt_pl k q < 31 → z = (if b = true then nI (2 ^ rt_pl k q) else 0) → wX_has_26 post (nI (rt_pl k q)) z T c G B H := by
    intro z hb hz
    subst hz
    unfold wX_has_26
    by_cases e : b = true
    · rw [if_pos e]
      exact br_f (fun y => absurd rfl ((rt_bp _ hb _ hb).mp y)) (h1 e)
    · rw [if_neg e]
      exact br_t (rt_bz _ hb) (h0 e)
  rcases Nat.lt_or_ge k 4 with h | h
  · have hb : rt_pl k q < 15 := by rw [rt_plT h]; exact rt_p15 k h q hq
    exact pk_le 4 k (fun z => absurd z (by omega)) (fun _ => fin T (by omega) (ok.1 h).1)
  · obtain ⟨j, rfl⟩ : ∃ j, k = j + 4 := ⟨k - 4, by omega⟩
    have hj : j < 5 := by omega
    have hb : rt_pl (j + 4) q < 31 := by rw [rt_plL]; exact rt_p31 j hj _ (Nat.mod_lt _ (Nat.two_pow_pos j))
    have h3 := (ok.2 h).2.1 (a / 16)
    rw [Nat.add_sub_cancel] at h3
    refine pk_le 4 (j + 4) (fun _ => ⟨pk_in (a / 16) 16 (by omega), fin _ hb ?_⟩) (fun z => absurd z (by omega))
    rw [h3]
    by_cases e : b = true
    · rw [if_pos e, if_pos ⟨e, rt_nod hj hm⟩]
    · rw [if_neg e, if_neg (fun z => e z.1)]
theorem rt_beg {post : Int32 → Prop} {k q : Nat} (hk : k < 9) (hq : q < 2 ^ k) (hf : q * 2 ^ (8 - k) < 256) (hp : post 1) : wpX_isBeginning post () (nI (q * 2 ^ (8 - k))) (nI k) := by
  unfold wpX_isBeginning
  refine br_f (nI_pos (by omega)) (pk_lt 8 k (fun z => absurd z (by omega)) (fun _ => ?_))
  unfold wpX_isAddress
  refine br_f (nI_pos (by omega)) (pk_le 256 (q * 2 ^ (8 - k)) (fun z => absurd z (by omega)) (fun _ => br_f rt_10 (br_t (rt_beg0 k hk q hq) hp)))
end
section
/-! part 03: put into an empty table, drop; the methods that look up, over the interval f ≤ a < e of the beginning's addresses (e = f if there is none) -/
theorem rt_ok0 (k q g : Nat) : rt_ok false k q g 0 (fun _ => 0) (fun _ => 0) (fun _ => 0) := by
  refine ⟨fun _ => ⟨?_, fun _ => rfl, fun z => absurd z (by decide)⟩, fun _ => ⟨rfl, fun n => ?_, fun z => absurd z (by decide)⟩⟩
  · rw [if_neg (by decide)]
  · rw [if_neg (fun z => absurd z.1 (by decide))]
theorem rt_putN {post : Int32 → St2 → Prop} {k q : Nat} {g T c : Int32} {G B H : Nat → Int32} (hk : k < 9) (hq : q < 2 ^ k) (hf : q * 2 ^ (8 - k) < 256) (hg : g < 0 ∨ ¬ g ≤ 99)
    (hp : post 0 (T, c, G, B, H)) : wpX_put post (T, c, G, B, H) (nI (q * 2 ^ (8 - k))) (nI k) g := by
  unfold wpX_put
  refine rt_beg hk hq hf (br_f rt_10 (br_c (fun _ => hp) (fun z => br_f ?_ hp)))
  rcases hg with h | h
  · exact absurd h z
  · exact h
theorem rt_putF {post : Int32 → St2 → Prop} {k q g : Nat} (hk : k < 9) (hq : q < 2 ^ k) (hf : q * 2 ^ (8 - k) < 256) (hd : q * 2 ^ (8 - k) / 2 ^ (8 - k) = q) (hg : g < 100)
    (hp : ∀ (T c : Int32) (G B H : Nat → Int32), rt_ok true k q g T G B H → post 1 (T, c, G, B, H)) :
    wpX_put post (0, 0, (fun _ => 0), (fun _ => 0), (fun _ => 0)) (nI (q * 2 ^ (8 - k))) (nI k) (nI g) := by
  have ok0 := rt_ok0 k q g
  unfold wpX_put
  refine rt_beg hk hq hf (br_f rt_10 (br_f (nI_pos (by omega)) (br_t (nI_le (b := 99) (by omega) (by decide)) ?_)))
  refine rt_has hk hq ok0 hf hd (fun z => absurd z (by decide)) (fun _ => br_t rfl ?_)
  unfold wX_put_39
  refine nm_e (rt_place hf hk ?_)
  rw [hd]
  rcases Nat.lt_or_ge k 4 with h | h
  · have hb : rt_pl k q < 15 := by rw [rt_plT h]; exact rt_p15 k h q hq
    refine pk_le 4 k (fun z => absurd z (by omega)) (fun _ => nm_e ⟨pk_in (rt_pl k q) 15 hb, nm_e (hp _ _ _ _ _ ?_)⟩)
    refine ⟨fun _ => ⟨?_, fun _ => rfl, fun _ => ?_⟩, fun z => absurd z (by omega)⟩
    · rw [if_pos rfl, rt_sh _ (by omega), Int32.zero_or]
    · rw [nI_clamp (by omega), pk_us, rt_by g hg]
  · obtain ⟨j, rfl⟩ : ∃ j, k = j + 4 := ⟨k - 4, by omega⟩
    have hj : j < 5 := by omega
    have hb : rt_pl (j + 4) q < 31 := by rw [rt_plL]; exact rt_p31 j hj _ (Nat.mod_lt _ (Nat.two_pow_pos j))
    have hn := rt_nod hj hd
    refine pk_le 4 (j + 4) (fun _ => nm_r (rt_s4 hf) ?_) (fun z => absurd z (by omega))
    have hn16 : q / 2 ^ j < 16 := by rw [← hn]; omega
    rw [rt_i31, hn]
    refine ⟨pk_in (q / 2 ^ j) 16 hn16, pk_in (q / 2 ^ j) 16 hn16, nm_e ⟨pk_in (q / 2 ^ j * 31 + rt_pl (j + 4) q) 496 (by omega), nm_e (hp _ _ _ _ _ ?_)⟩⟩
    refine ⟨fun z => absurd z (by omega), fun _ => ⟨rfl, fun n => ?_, fun _ => ?_⟩⟩
    · rw [nI_clamp (by omega), rt_sh _ hb, Int32.zero_or, Nat.add_sub_cancel]
      by_cases e : n = q / 2 ^ j
      · rw [e, pk_us, if_pos ⟨rfl, rfl⟩]
      · rw [pk_un e, if_neg (fun z => e z.2)]
    · rw [nI_clamp (by omega), Nat.add_sub_cancel, pk_us, rt_by g hg]
theorem rt_drop {post : Int32 → St2 → Prop} {b : Bool} {k q g : Nat} {T c : Int32} {G B H : Nat → Int32} (hk : k < 9) (hq : q < 2 ^ k) (hf : q * 2 ^ (8 - k) < 256) (hd : q * 2 ^ (8 - k) / 2 ^ (8 - k) = q)
    (ok : rt_ok b k q g T G B H) (h1 : b = true → ∀ (T' c' : Int32) (G' B' H' : Nat → Int32), post 1 (T', c', G', B', H')) (h0 : ¬ b = true → post 0 (T, c, G, B, H)) :
    wpX_drop post (T, c, G, B, H) (nI (q * 2 ^ (8 - k))) (nI k) := by
  unfold wpX_drop
  refine rt_beg hk hq hf (br_f rt_10 (rt_has hk hq ok hf hd (fun hb => br_f rt_10 (rt_place hf hk ?_)) (fun hb => br_t rfl (h0 hb))))
  refine pk_le 4 k (fun _ => ⟨pk_in (q * 2 ^ (8 - k) / 16) 16 (by omega) (rt_s4 hf), pk_in (q * 2 ^ (8 - k) / 16) 16 (by omega) (rt_s4 hf), nm_e ?_⟩) (fun _ => nm_e ?_)
  · exact nm_e (h1 hb _ _ _ _ _)
  · exact nm_e (h1 hb _ _ _ _ _)
/-- looking up: the bits, the goal, whether it is there -/
def rt_B (k f e : Nat) (u : St2) : Prop := ∀ (a : Nat) (post : Int32 → Prop), a < 256 → (f ≤ a ∧ a < e → post (nI k)) → (¬ (f ≤ a ∧ a < e) → post (-1)) → wpX_bitsBelow post u (nI a) 9
def rt_G (g f e : Nat) (u : St2) : Prop := ∀ (a : Nat) (post : Int32 → Prop), a < 256 → (f ≤ a ∧ a < e → post (nI g)) → (¬ (f ≤ a ∧ a < e) → post (-1)) → wpX_goalBelow post u (nI a) 9
def rt_e (b : Bool) (k q : Nat) : Nat := if b = true then q * 2 ^ (8 - k) + 2 ^ (8 - k) else q * 2 ^ (8 - k)
theorem rt_int {b : Bool} {k q : Nat} (hk : k < 9) (a : Nat) : (b = true ∧ a / 2 ^ (8 - k) = q) ↔ (q * 2 ^ (8 - k) ≤ a ∧ a < rt_e b k q) := by
  unfold rt_e
  rw [rt_div (rt_pw k hk).2]
  by_cases h : b = true
  · rw [if_pos h]
    exact ⟨fun z => z.2, fun z => ⟨h, z⟩⟩
  · rw [if_neg h]
    exact ⟨fun z => absurd z.1 h, fun z => absurd z.1 (by omega)⟩
theorem rt_isB {b : Bool} {k q g : Nat} {T c : Int32} {G B H : Nat → Int32} (hk : k < 9) (hq : q < 2 ^ k) (ok : rt_ok b k q g T G B H) : rt_B k (q * 2 ^ (8 - k)) (rt_e b k q) (T, c, G, B, H) :=
  fun a _ ha h1 h0 => rt_bb9 hk hq ok ha (fun z => h1 ((rt_int hk a).mp z)) (fun z => h0 (fun y => z ((rt_int hk a).mpr y)))
theorem rt_isG {b : Bool} {k q g : Nat} {T c : Int32} {G B H : Nat → Int32} (hk : k < 9) (hq : q < 2 ^ k) (ok : rt_ok b k q g T G B H) : rt_G g (q * 2 ^ (8 - k)) (rt_e b k q) (T, c, G, B, H) := by
  intro a post ha h1 h0
  unfold wpX_goalBelow
  refine rt_bb9 hk hq ok ha (fun z => br_t (nI_pos' (by omega)) ?_) (fun z => br_f (by decide) (h0 (fun y => z ((rt_int hk a).mpr y))))
  have hb := z.1
  subst hb
  exact rt_gO hk hq ok ha z.2 (h1 ((rt_int hk a).mp z))
end
section
/-! part 04: the methods with loops, over rt_B and rt_G alone -/
theorem rt_goal {post : Int32 → Prop} {x r : Int32} {g f e : Nat} {u : St2} (hG : rt_G g f e u) (h1 : ∀ a, a < 256 → x = nI a → (f ≤ a ∧ a < e) → r = nI g) (h0 : (∀ a, a < 256 → x = nI a → ¬ (f ≤ a ∧ a < e)) → r = -1) (hp : post r) : wpX_goal post u x := by
  obtain ⟨T, c, G, B, H⟩ := u
  unfold wpX_goal wpX_isAddress
  rcases pk_ix x (n := 256) (by decide) with h | h | ⟨a, ha, rfl⟩
  · refine br_t h (br_t rfl ?_)
    rw [← h0 (fun a ha e => absurd (e ▸ h) (nI_pos (by omega)))]
    exact hp
  · refine br_f (fun z => ?_) (br_t h (br_t rfl ?_))
    · rw [Int32.lt_iff_toInt_lt] at z
      rw [Int32.le_iff_toInt_le, nI_toInt (by decide)] at h
      rw [show (0 : Int32).toInt = 0 from by decide] at z
      omega
    · rw [← h0 (fun a ha e => absurd (e ▸ h) (nI_ge ha (by decide)))]
      exact hp
  · refine br_f (nI_pos (by omega)) (br_f (nI_ge (b := 256) ha (by decide)) (br_f rt_10 (hG a _ ha (fun z => ?_) (fun z => ?_))))
    · rw [← h1 a ha rfl z]
      exact hp
    · rw [← h0 (fun a' ha' e => by rw [(nI_eq (by omega) (by omega)).mp e] at z; exact z)]
      exact hp
theorem rt_bits {post : Int32 → Prop} {x r : Int32} {k f e : Nat} {u : St2} (hB : rt_B k f e u) (h1 : ∀ a, a < 256 → x = nI a → (f ≤ a ∧ a < e) → r = nI k) (h0 : (∀ a, a < 256 → x = nI a → ¬ (f ≤ a ∧ a < e)) → r = -1) (hp : post r) : wpX_bits post u x := by
  obtain ⟨T, c, G, B, H⟩ := u
  unfold wpX_bits wpX_isAddress
  rcases pk_ix x (n := 256) (by decide) with h | h | ⟨a, ha, rfl⟩
  · refine br_t h (br_t rfl ?_)
    rw [← h0 (fun a ha e => absurd (e ▸ h) (nI_pos (by omega)))]
    exact hp
  · refine br_f (fun z => ?_) (br_t h (br_t rfl ?_))
    · rw [Int32.lt_iff_toInt_lt] at z
      rw [Int32.le_iff_toInt_le, nI_toInt (by decide)] at h
      rw [show (0 : Int32).toInt = 0 from by decide] at z
      omega
    · rw [← h0 (fun a ha e => absurd (e ▸ h) (nI_ge ha (by decide)))]
      exact hp
  · refine br_f (nI_pos (by omega)) (br_f (nI_ge (b := 256) ha (by decide)) (br_f rt_10 (hB a _ ha (fun z => ?_) (fun z => ?_))))
    · rw [← h1 a ha rfl z]
      exact hp
    · rw [← h0 (fun a' ha' e => by rw [(nI_eq (by omega) (by omega)).mp e] at z; exact z)]
      exact hp
theorem rt_loadL {post : Int32 → Prop} {k f s : Nat} {T c : Int32} {G B H : Nat → Int32} (hB : rt_B k f (f + s) (T, c, G, B, H)) (hs : 0 < s) (he : f + s ≤ 256) (hp : post (nI s)) : ∃ n, wX_load_33 post (nI k) (nI (f + s - 1)) T c G B H n 0 (nI f) :=
  pk_loop (σ := Unit) (fun n i _ => wX_load_33 post (nI k) (nI (f + s - 1)) T c G B H n (nI i) (nI (f + i))) (fun _ _ => True) s 0 () (by omega) trivial
    (fun n _ _ => pk_lt (f + s - 1) (f + s) (fun _ => hp) (fun z => absurd z (by omega)))
    (fun n i _ hi _ hw => pk_lt (f + s - 1) (f + i) (fun z => absurd z (by omega)) (fun _ => hB (f + i) _ (by omega) (fun _ => br_t rfl (nm_r (nI_1 i) (nm_r (nI_1 (f + i)) (hw () trivial)))) (fun z => absurd (show f ≤ f + i ∧ f + i < f + s by omega) z)))
theorem rt_start {post : Int32 → Prop} {g f e a : Nat} {u : St2} (hG : rt_G g f e u) (hg : g < 100) (ha : a < 256) (h1 : a = 0 ∨ (f < e ∧ (a = f ∨ a = e)) → post 1) (h0 : ¬ (a = 0 ∨ (f < e ∧ (a = f ∨ a = e))) → post 0) : wpX_startsSpan post u (nI a) := by
  obtain ⟨T, c, G, B, H⟩ := u
  unfold wpX_startsSpan
  refine pk_eq a 0 (fun z => h1 (Or.inl z)) (fun z => ?_)
  obtain ⟨n, rfl⟩ : ∃ n, a = n + 1 := ⟨a - 1, by omega⟩
  rw [nI_pred]
  refine hG (n + 1) _ ha (fun z1 => hG n _ (by omega) (fun z0 => br_t rfl (h0 (by omega))) (fun z0 => br_f (rt_m1' (by omega)) (h1 (by omega)))) (fun z1 => hG n _ (by omega) (fun z0 => br_f (rt_m1 (by omega)) (h1 (by omega))) (fun z0 => br_t rfl (h0 (by omega))))
theorem rt_spans {post : Int32 → Prop} {g f e : Nat} {T c : Int32} {G B H : Nat → Int32} (hG : rt_G g f e (T, c, G, B, H)) (hg : g < 100) (he : e ≤ 256)
    (hp : post (nI (1 + (if 0 < f ∧ f < e then 1 else 0) + (if f < e ∧ e < 256 then 1 else 0)))) : wpX_spans post (T, c, G, B, H) := by
  unfold wpX_spans
  refine pk_loop (σ := Nat) (fun n i s => wX_spans_4 post T c G B H n (nI s) (nI i)) (fun i s => s = (if 0 < i then 1 else 0) + (if 0 < f ∧ f < e ∧ f < i then 1 else 0) + (if f < e ∧ e < i then 1 else 0)) 256 0 0 (by omega) ?_ ?_ ?_
  · rw [if_neg (by omega), if_neg (by omega), if_neg (by omega)]
  · intro n s hs
    refine pk_le 256 256 (fun _ => ?_) (fun z => absurd z (by omega))
    have : s = 1 + (if 0 < f ∧ f < e then 1 else 0) + (if f < e ∧ e < 256 then 1 else 0) := by
      rw [hs, if_pos (by omega)]
      by_cases h1 : 0 < f ∧ f < e
      · rw [if_pos h1, if_pos (by omega)]
      · rw [if_neg h1, if_neg (by omega)]
    rw [this]
    exact hp
  · intro n i s hi hs hw
    refine pk_le 256 i (fun z => absurd z (by omega)) (fun _ => rt_start hG hg hi (fun z => br_f rt_10 (nm_r (nI_1 s) (nm_r (nI_1 i) (hw (s + 1) ?_)))) (fun z => br_t rfl (nm_r (e' := nI s) (by rw [show (0 : Int32) = nI 0 from rfl, nI_add, Nat.add_zero]) (nm_r (nI_1 i) (hw s ?_)))))
    · rw [hs]
      split <;> split <;> split <;> split <;> split <;> split <;> omega
    · rw [hs]
      split <;> split <;> split <;> split <;> split <;> split <;> omega
theorem rt_spanStart {post : Int32 → Prop} {g f e E : Nat} {r T c : Int32} {G B H : Nat → Int32} (hG : rt_G g f e (T, c, G, B, H)) (hg : g < 100) (hE0 : 0 < E) (hE : E ≤ 256)
    (hn : ∀ a, 0 < a → a < E → ¬ (f < e ∧ (a = f ∨ a = e))) (hy : E < 256 → f < e ∧ (E = f ∨ E = e)) (h1 : E = 256 → r = -1) (h2 : E < 256 → r = nI E) (hp : post r) : wpX_spanStart post (T, c, G, B, H) 1 := by
  unfold wpX_spanStart
  refine pk_loop (σ := Nat) (fun n i s => wX_spanStart_4 post 1 T c G B H n (nI s) (nI i)) (fun i s => (i = 0 ∧ s = 0) ∨ (0 < i ∧ s = 1)) E 0 0 (by omega) (Or.inl ⟨rfl, rfl⟩) ?_ ?_
  · intro n s hs
    have hs1 : s = 1 := by omega
    refine pk_le 256 E (fun z => by rw [← h1 (by omega)]; exact hp) (fun z => rt_start hG hg z (fun _ => br_f rt_10 (br_t (by rw [hs1]; rfl) (by rw [← h2 z]; exact hp))) (fun y => absurd (Or.inr (hy z)) y))
  · intro n i s hi hs hw
    refine pk_le 256 i (fun z => absurd z (by omega)) (fun z => rt_start hG hg z (fun y => br_f rt_10 (pk_eq s 1 (fun w => ?_) (fun w => nm_r (nI_1 s) (nm_r (nI_1 i) (hw (s + 1) (by omega)))))) (fun y => br_t rfl (nm_r (nI_1 i) (hw s (by omega)))))
    rcases y with y | y
    · omega
    · exact absurd y (hn i (by omega) hi)
theorem rt_a0 (s : Nat) : nI s + 0 = nI s := by rw [show (0 : Int32) = nI 0 from rfl, nI_add, Nat.add_zero]
theorem rt_sent {post : Int32 → Prop} {g f e : Nat} {x r : Int32} {T c : Int32} {G B H : Nat → Int32} (hG : rt_G g f e (T, c, G, B, H)) (hg : g < 100) (hf : f ≤ e) (he : e ≤ 256)
    (h1 : f < e → x = nI g ∧ r = nI (e - f)) (h2 : ¬ f < e → x = -1 → r = nI 256) (h3 : ¬ f < e → ¬ x = -1 → r = 0) (hp : post r) : wpX_sent post (T, c, G, B, H) x := by
  unfold wpX_sent
  by_cases hfe : f < e
  · obtain ⟨rfl, rfl⟩ := h1 hfe
    refine pk_loop (σ := Nat) (fun n i s => wX_sent_4 post (nI g) T c G B H n (nI s) (nI i)) (fun i s => s = min i e - min i f) 256 0 0 (by omega) (by omega) ?_ ?_
    · intro n s hs
      refine pk_le 256 256 (fun _ => ?_) (fun z => absurd z (by omega))
      rw [show s = e - f by omega]
      exact hp
    · intro n i s hi hs hw
      exact pk_le 256 i (fun z => absurd z (by omega)) (fun _ => hG i _ hi (fun z => br_t rfl (nm_r (nI_1 s) (nm_r (nI_1 i) (hw (s + 1) (by omega))))) (fun z => br_f (rt_m1 (by omega)) (nm_r (rt_a0 s) (nm_r (nI_1 i) (hw s (by omega))))))
  · by_cases hx : x = -1
    · have hr := h2 hfe hx
      subst hr hx
      refine pk_loop (σ := Unit) (fun n i s => wX_sent_4 post (-1) T c G B H n (nI i) (nI i)) (fun i s => True) 256 0 () (by omega) trivial ?_ ?_
      · exact fun n s _ => pk_le 256 256 (fun _ => hp) (fun z => absurd z (by omega))
      · exact fun n i s hi _ hw => pk_le 256 i (fun z => absurd z (by omega)) (fun _ => hG i _ hi (fun z => absurd z (by omega)) (fun z => br_t rfl (nm_r (nI_1 i) (nm_r (nI_1 i) (hw () trivial)))))
    · have hr := h3 hfe hx
      subst hr
      refine pk_loop (σ := Unit) (fun n i s => wX_sent_4 post x T c G B H n (nI 0) (nI i)) (fun i s => True) 256 0 () (by omega) trivial ?_ ?_
      · exact fun n s _ => pk_le 256 256 (fun _ => hp) (fun z => absurd z (by omega))
      · exact fun n i s hi _ hw => pk_le 256 i (fun z => absurd z (by omega)) (fun _ => hG i _ hi (fun z => absurd z (by omega)) (fun z => br_f (fun y => hx y.symm) (nm_r (rt_a0 0) (nm_r (nI_1 i) (hw () trivial)))))
theorem rt_nl {post : Int32 → Prop} {g f e j E : Nat} {x : Int32} {T c : Int32} {G B H : Nat → Int32} (hG : rt_G g f e (T, c, G, B, H)) (hg : g < 100) (hx : ¬ (-1) = x) (hin : f < e → x = nI g) (hj : j ≤ E) (hE : E ≤ 256)
    (hn : ∀ a, j ≤ a → a < E → ¬ (f ≤ a ∧ a < e)) (hy : E < 256 → f ≤ E ∧ E < e) (h1 : E = 256 → post (-1)) (h2 : E < 256 → post (nI E)) : ∃ n, wX_next_10 post x T c G B H n (nI j) := by
  refine pk_loop (σ := Unit) (fun n i s => wX_next_10 post x T c G B H n (nI i)) (fun i s => j ≤ i) E j () hj (Nat.le_refl j) ?_ ?_
  · intro n s _
    refine pk_le 256 E (fun z => h1 (by omega)) (fun z => ?_)
    have hi := hy z
    have hx' := hin (by omega)
    exact br_f (by rw [hx']; exact nI_pos (by omega)) (hG E _ z (fun _ => br_t hx'.symm (h2 z)) (fun y => absurd hi y))
  · intro n i s hi hji hw
    exact pk_le 256 i (fun z => absurd z (by omega)) (fun z => br_c (fun _ => nm_r (nI_1 i) (hw () (by omega))) (fun _ => hG i _ z (fun y => absurd y (hn i hji hi)) (fun y => br_f hx (nm_r (nI_1 i) (hw () (by omega))))))
theorem rt_nb {post : Int32 → Prop} {j : Nat} {x : Int32} {T c : Int32} {G B H : Nat → Int32} (hj : 256 ≤ j) (hj' : j < 2 ^ 31) (h1 : post (-1)) : ∃ n, wX_next_10 post x T c G B H n (nI j) :=
  ⟨1, br_t (nI_le (a := 256) hj hj') h1⟩
/-- next: from a negative start, or from j -/
theorem rt_next {post : Int32 → Prop} {g f e : Nat} {x y r : Int32} {T c : Int32} {G B H : Nat → Int32} (hG : rt_G g f e (T, c, G, B, H)) (hg : g < 100) (hx : ¬ x = -1) (hin : f < e → x = nI g) (he : e ≤ 256)
    (h0 : ¬ f < e → r = -1) (h1 : ∀ j, j < 2 ^ 31 → y = nI j → f < e → r = if j < f then nI f else if j < e then nI j else -1) (h2 : y < 0 → f < e → r = nI f) (hp : post r) : wpX_next post (T, c, G, B, H) y x := by
  have hx' : ¬ (-1) = x := fun z => hx z.symm
  have main : ∀ j, j < 256 → (f < e → r = if j < f then nI f else if j < e then nI j else -1) → ∃ n, wX_next_10 post x T c G B H n (nI j) := by
    intro j hj hr
    by_cases hfe : f < e
    · have hr' := hr hfe
      by_cases c1 : j < f
      · rw [if_pos c1] at hr'
        subst hr'
        exact rt_nl (E := f) hG hg hx' hin (by omega) (by omega) (by omega) (by omega) (fun z => absurd z (by omega)) (fun _ => hp)
      · rw [if_neg c1] at hr'
        by_cases c2 : j < e
        · rw [if_pos c2] at hr'
          subst hr'
          exact rt_nl (E := j) hG hg hx' hin (by omega) (by omega) (by omega) (by omega) (fun z => absurd z (by omega)) (fun _ => hp)
        · rw [if_neg c2] at hr'
          subst hr'
          exact rt_nl (E := 256) hG hg hx' hin (by omega) (by omega) (by omega) (by omega) (fun _ => hp) (fun z => absurd z (by omega))
    · have hr' := h0 hfe
      subst hr'
      exact rt_nl (E := 256) hG hg hx' hin (by omega) (by omega) (by omega) (by omega) (fun _ => hp) (fun z => absurd z (by omega))
  unfold wpX_next
  by_cases hy : y < 0
  · refine br_f (fun z => ?_) (main 0 (by omega) (fun hfe => ?_))
    · rw [Int32.lt_iff_toInt_lt] at hy
      rw [Int32.le_iff_toInt_le] at z
      omega
    · rw [h2 hy hfe]
      by_cases c1 : 0 < f
      · rw [if_pos c1]
      · rw [if_neg c1, if_pos (by omega), show f = 0 by omega]
  · obtain ⟨j, hj, rfl⟩ := nI_of hy
    refine br_t (nI_pos' hj) ?_
    rcases Nat.lt_or_ge j 256 with h | h
    · exact main j h (h1 j hj rfl)
    · refine rt_nb h hj ?_
      by_cases hfe : f < e
      · have hr := h1 j hj rfl hfe
        rw [if_neg (by omega), if_neg (by omega)] at hr
        rw [← hr]
        exact hp
      · rw [← h0 hfe]
        exact hp
end
section
/-! part 05: load and idle, and the law's own rows -/
theorem rt_load {post : Int32 → Prop} {b : Bool} {k q g : Nat} {r T c : Int32} {G B H : Nat → Int32} (hk : k < 9) (hq : q < 2 ^ k) (he : q * 2 ^ (8 - k) + 2 ^ (8 - k) ≤ 256) (hd : q * 2 ^ (8 - k) / 2 ^ (8 - k) = q)
    (ok : rt_ok b k q g T G B H) (h1 : b = true → r = nI (2 ^ (8 - k))) (h0 : ¬ b = true → r = -1) (hp : post r) : wpX_load post (T, c, G, B, H) (nI (q * 2 ^ (8 - k))) (nI k) := by
  have hs : 0 < 2 ^ (8 - k) := (rt_pw k hk).2
  have hf : q * 2 ^ (8 - k) < 256 := by omega
  have hB := rt_isB (c := c) hk hq ok
  unfold wpX_load
  refine rt_beg hk hq hf (br_f rt_10 (rt_has hk hq ok hf hd (fun hb => br_f rt_10 (nm_r (rt_lst0 k hk q hq) ?_)) (fun hb => br_t rfl ?_)))
  · rw [show rt_e b k q = q * 2 ^ (8 - k) + 2 ^ (8 - k) from by unfold rt_e; rw [if_pos hb]] at hB
    exact rt_loadL hB hs he (by rw [← h1 hb]; exact hp)
  · rw [← h0 hb]
    exact hp
theorem rt_idle {post : Int32 → Prop} {b : Bool} {k q g : Nat} {T c : Int32} {G B H : Nat → Int32} (hk : k < 9) (hq : q < 2 ^ k) (he : q * 2 ^ (8 - k) + 2 ^ (8 - k) ≤ 256) (hd : q * 2 ^ (8 - k) / 2 ^ (8 - k) = q) (hg : g < 100)
    (ok : rt_ok b k q g T G B H) (hp : post 0) : wpX_idle post (T, c, G, B, H) (nI (q * 2 ^ (8 - k))) (nI k) := by
  have hs : 0 < 2 ^ (8 - k) := (rt_pw k hk).2
  have hf : q * 2 ^ (8 - k) < 256 := by omega
  unfold wpX_idle
  refine rt_beg hk hq hf (br_f rt_10 (rt_has hk hq ok hf hd (fun hb => br_f rt_10 ?_) (fun hb => br_t rfl hp)))
  unfold wpX_goalBelow
  refine rt_bbK hk hq ok hf (br_f (by decide) ?_)
  subst hb
  exact rt_gO hk hq ok hf hd (br_f (rt_m1 (by omega)) (rt_load hk hq he hd ok (fun _ => rfl) (fun z => absurd rfl z) (br_f (nI_ne0 hs (by omega)) hp)))
/-- the goal and the bits that are due at x -/
def rt_hit (k g f e : Nat) (x r t : Int32) : Prop := (∀ a, a < 256 → x = nI a → (f ≤ a ∧ a < e) → r = nI g ∧ t = nI k) ∧ ((∀ a, a < 256 → x = nI a → ¬ (f ≤ a ∧ a < e)) → r = -1 ∧ t = -1)
/-- the second span's start -/
def rt_snd (f e : Nat) (r : Int32) : Prop := ∃ E, 0 < E ∧ E ≤ 256 ∧ (∀ a, 0 < a → a < E → ¬ (f < e ∧ (a = f ∨ a = e))) ∧ (E < 256 → f < e ∧ (E = f ∨ E = e)) ∧ (E = 256 → r = -1) ∧ (E < 256 → r = nI E)
theorem rt_283 {post : Int32 → St0 → Prop} {mc ms kc ks : Nat} {x2 x3 x10 x12 x13 x14 x15 x16 x18 : Int32} {b : Bool} {k q g : Nat} {T c : Int32} {G B H : Nat → Int32} (hk : k < 9) (hq : q < 2 ^ k) (he : q * 2 ^ (8 - k) + 2 ^ (8 - k) ≤ 256) (hd : q * 2 ^ (8 - k) / 2 ^ (8 - k) = q) (hg : g < 100)
    (ok : rt_ok b k q g T G B H) (h10 : x10 = if b = true then 1 else 0) (hh : rt_hit k g (q * 2 ^ (8 - k)) (rt_e b k q) x3 x12 x13) (h14 : b = true → x14 = nI (2 ^ (8 - k))) (h14' : ¬ b = true → x14 = -1)
    (h15 : nI (1 + (if 0 < q * 2 ^ (8 - k) ∧ q * 2 ^ (8 - k) < rt_e b k q then 1 else 0) + (if q * 2 ^ (8 - k) < rt_e b k q ∧ rt_e b k q < 256 then 1 else 0)) = x15)
    (h16 : rt_snd (q * 2 ^ (8 - k)) (rt_e b k q) x16) (h18 : b = true → x2 = nI g ∧ x18 = nI (2 ^ (8 - k))) (h18' : ¬ b = true → x2 = -1 → x18 = nI 256) (h18'' : ¬ b = true → ¬ x2 = -1 → x18 = 0)
    (hp : post 1 ()) : wL_lawOf_283 post mc ms x2 x3 (nI k) (nI (q * 2 ^ (8 - k))) x10 x12 x13 x14 x15 x16 x18 kc ks T c G B H := by
  have hs : 0 < 2 ^ (8 - k) := (rt_pw k hk).2
  have hf : q * 2 ^ (8 - k) < 256 := by omega
  have hB := rt_isB (c := c) hk hq ok
  have hG := rt_isG (c := c) hk hq ok
  have e1 : b = true → rt_e b k q = q * 2 ^ (8 - k) + 2 ^ (8 - k) := fun z => by unfold rt_e; rw [if_pos z]
  have e0 : ¬ b = true → rt_e b k q = q * 2 ^ (8 - k) := fun z => by unfold rt_e; rw [if_neg z]
  have eb : q * 2 ^ (8 - k) < rt_e b k q → b = true := fun z => Decidable.byContradiction (fun y => by rw [e0 y] at z; omega)
  have en : ¬ q * 2 ^ (8 - k) < rt_e b k q → ¬ b = true := fun z y => by rw [e1 y] at z; omega
  have ele : rt_e b k q ≤ 256 := by
    by_cases z : b = true
    · rw [e1 z]; exact he
    · rw [e0 z]; omega
  have fle : q * 2 ^ (8 - k) ≤ rt_e b k q := by
    by_cases z : b = true
    · rw [e1 z]; omega
    · rw [e0 z]; omega
  obtain ⟨E, E1, E2, E3, E4, E5, E6⟩ := h16
  unfold wL_lawOf_283
  refine rt_goal hG (fun a ha ea ia => (hh.1 a ha ea ia).1) (fun z => (hh.2 z).1) (br_t rfl ?_)
  refine rt_bits hB (fun a ha ea ia => (hh.1 a ha ea ia).2) (fun z => (hh.2 z).2) (br_t rfl ?_)
  refine rt_load hk hq he hd ok h14 h14' (br_t rfl ?_)
  refine rt_spans hG hg ele (br_t h15 ?_)
  refine rt_spanStart hG hg E1 E2 E3 E4 E5 E6 (br_t rfl ?_)
  refine rt_sent hG hg fle ele (fun z => ?_) (fun z => h18' (en z)) (fun z => h18'' (en z)) (br_t rfl ?_)
  · have hb := eb z
    rw [e1 hb, Nat.add_sub_cancel_left]
    exact h18 hb
  refine rt_idle hk hq he hd hg ok (br_t rfl ?_)
  refine rt_drop hk hq hf hd ok (fun hb T' c' G' B' H' => br_t ?_ hp) (fun hb => br_t ?_ hp)
  · rw [h10, if_pos hb]
  · rw [h10, if_neg hb]
/-- the due next -/
def rt_nx (f e : Nat) (y r : Int32) : Prop := (∀ j, j < 2 ^ 31 → y = nI j → r = if j < f then nI f else if j < e then nI j else -1) ∧ (y < 0 → r = nI f)
theorem rt_205 {post : Int32 → St0 → Prop} {mc ms kc ks f s : Nat} {x2 x3 x4 x6 x12 x13 x14 x15 x16 : Int32} {T c : Int32} {G B H : Nat → Int32} (hs : 0 < s) (he : f + s ≤ 256)
    (K : ∀ x17 : Int32, rt_nx f (f + s) x4 x17 → wL_lawOf_261 post mc ms x2 x3 x4 x6 (nI f) 1 x12 x13 x14 x15 x16 x17 (nI s) kc ks T c G B H) :
    wL_lawOf_205 post mc ms x2 x3 x4 x6 (nI f) (nI s) (nI (f + s - 1)) 1 x12 x13 x14 x15 x16 kc ks T c G B H := by
  have neg : ∀ y : Int32, y < 0 → ∀ n, n < 2 ^ 31 → y ≤ nI n ∧ ¬ nI n ≤ y := by
    intro y hy n hn
    rw [Int32.le_iff_toInt_le, Int32.le_iff_toInt_le, nI_toInt hn]
    rw [Int32.lt_iff_toInt_lt, show (0 : Int32).toInt = 0 from by decide] at hy
    omega
  unfold wL_lawOf_205
  refine br_f rt_10 (br_c (fun h1 => br_c (fun h2 => ?_) (fun h2 => ?_)) (fun h1 => ?_))
  · unfold wL_lawOf_237
    refine br_f rt_10 (K _ ⟨fun j hj e => ?_, fun z => absurd h2 (neg _ z f (by omega)).2⟩)
    subst e
    rw [nI_leI hj (by omega)] at h1
    rw [nI_leI (by omega) hj] at h2
    rw [if_neg (by omega), if_pos (by omega)]
  · unfold wL_lawOf_237
    refine br_f rt_10 (K _ ⟨fun j hj e => ?_, fun _ => rfl⟩)
    subst e
    rw [nI_leI (by omega) hj] at h2
    rw [if_pos (by omega)]
  · unfold wL_lawOf_219 wL_lawOf_237
    refine br_f rt_10 (K _ ⟨fun j hj e => ?_, fun z => absurd (neg _ z (f + s - 1) (by omega)).1 h1⟩)
    subst e
    rw [nI_leI hj (by omega)] at h1
    rw [if_neg (by omega), if_neg (by omega)]
theorem rt_142 {post : Int32 → St0 → Prop} {mc ms kc ks f s : Nat} {x2 x3 x4 x6 x12 x13 x14 : Int32} {T c : Int32} {G B H : Nat → Int32} (hs : 0 < s) (he : f + s ≤ 256)
    (K : ∀ x15 x16 : Int32, nI (1 + (if 0 < f ∧ f < f + s then 1 else 0) + (if f < f + s ∧ f + s < 256 then 1 else 0)) = x15 → rt_snd f (f + s) x16 → wL_lawOf_205 post mc ms x2 x3 x4 x6 (nI f) (nI s) (nI (f + s - 1)) 1 x12 x13 x14 x15 x16 kc ks T c G B H) :
    wL_lawOf_142 post mc ms x2 x3 x4 x6 (nI f) (nI s) (nI (f + s - 1)) 1 x12 x13 x14 kc ks T c G B H := by
  have one : ∀ n : Nat, n < 4 → n ≠ 1 → ¬ nI n = 1 := by decide +kernel
  unfold wL_lawOf_142
  refine br_f rt_10 (pk_eq s 256 (fun h1 => ?_) (fun h1 => pk_eq f 0 (fun h2 => ?_) (fun h2 => pk_eq (f + s - 1) 255 (fun h3 => ?_) (fun h3 => ?_))))
  · unfold wL_lawOf_157 wL_lawOf_179
    refine br_t rfl (K _ _ ?_ ⟨256, by omega, by omega, by omega, by omega, fun _ => rfl, by omega⟩)
    rw [if_neg (by omega), if_neg (by omega)]
    rfl
  · unfold wL_lawOf_174 wL_lawOf_179
    refine br_f (by decide) (br_t (by rw [h2]; rfl) (K _ _ ?_ ⟨s, by omega, by omega, by omega, by omega, by omega, fun _ => ?_⟩))
    · rw [if_neg (by omega), if_pos (by omega)]
      rfl
    · rw [nI_1, show f + s - 1 + 1 = s by omega]
  · unfold wL_lawOf_174 wL_lawOf_179
    refine br_f (by decide) (br_f (nI_ne0 (by omega) (by omega)) (K _ _ ?_ ⟨f, by omega, by omega, by omega, by omega, by omega, fun _ => rfl⟩))
    rw [if_pos (by omega), if_neg (by omega)]
    rfl
  · unfold wL_lawOf_179
    refine br_f (by decide) (br_f (nI_ne0 (by omega) (by omega)) (K _ _ ?_ ⟨f, by omega, by omega, by omega, by omega, by omega, fun _ => rfl⟩))
    rw [if_pos (by omega), if_pos (by omega)]
    rfl
theorem rt_104z {post : Int32 → St0 → Prop} {mc ms kc ks : Nat} {x2 x3 x4 x6 x7 x8 x9 : Int32} {T c : Int32} {G B H : Nat → Int32}
    (K : wL_lawOf_142 post mc ms x2 x3 x4 x6 x7 x8 x9 1 (-1) (-1) x8 kc ks T c G B H) : wL_lawOf_103 post mc ms x2 x3 x4 x6 x7 x8 x9 1 kc ks T c G B H := by
  unfold wL_lawOf_103 wL_lawOf_104
  refine br_t rfl ?_
  unfold wL_lawOf_116
  refine br_t rfl ?_
  unfold wL_lawOf_129
  exact br_f rt_10 K
theorem rt_104h {post : Int32 → St0 → Prop} {mc ms kc ks : Nat} {x2 x3 x4 x6 x7 x8 x9 : Int32} {T c : Int32} {G B H : Nat → Int32}
    (K : wL_lawOf_142 post mc ms x2 x3 x4 x6 x7 x8 x9 1 x2 x6 x8 kc ks T c G B H) : wL_lawOf_104 post mc ms x2 x3 x4 x6 x7 x8 x9 1 1 kc ks T c G B H := by
  unfold wL_lawOf_104
  refine br_f rt_10 ?_
  unfold wL_lawOf_116
  refine br_f rt_10 ?_
  unfold wL_lawOf_129
  exact br_f rt_10 K
/-- a goal that fits -/
theorem rt_63F {post : Int32 → St0 → Prop} {mc ms kc ks k q g : Nat} {x3 x4 : Int32} (hk : k < 9) (hq : q < 2 ^ k) (he : q * 2 ^ (8 - k) + 2 ^ (8 - k) ≤ 256) (hd : q * 2 ^ (8 - k) / 2 ^ (8 - k) = q) (hg : g < 100) (hp : post 1 ()) :
    wL_lawOf_63 post mc ms (nI g) x3 x4 (nI k) (nI (q * 2 ^ (8 - k))) (nI (2 ^ (8 - k))) (nI (q * 2 ^ (8 - k) + 2 ^ (8 - k) - 1)) 1 kc ks 0 0 (fun _ => 0) (fun _ => 0) (fun _ => 0) := by
  have hs : 0 < 2 ^ (8 - k) := (rt_pw k hk).2
  have hf : q * 2 ^ (8 - k) < 256 := by omega
  unfold wL_lawOf_63
  refine rt_putF hk hq hf hd hg (fun T c G B H ok => br_t rfl (br_f rt_10 ?_))
  have e1 : rt_e true k q = q * 2 ^ (8 - k) + 2 ^ (8 - k) := by unfold rt_e; rw [if_pos rfl]
  have hG := rt_isG (c := c) hk hq ok
  rw [e1] at hG
  have main : ∀ x12 x13 : Int32, rt_hit k g (q * 2 ^ (8 - k)) (q * 2 ^ (8 - k) + 2 ^ (8 - k)) x3 x12 x13 → wL_lawOf_142 post mc ms (nI g) x3 x4 (nI k) (nI (q * 2 ^ (8 - k))) (nI (2 ^ (8 - k))) (nI (q * 2 ^ (8 - k) + 2 ^ (8 - k) - 1)) 1 x12 x13 (nI (2 ^ (8 - k))) kc ks T c G B H := by
    intro x12 x13 hh
    refine rt_142 hs he (fun x15 x16 h15 h16 => rt_205 hs he (fun x17 h17 => ?_))
    unfold wL_lawOf_261
    refine br_f (rt_m1' (by omega)) (rt_next hG hg (rt_m1' (by omega)) (fun _ => rfl) he (fun z => absurd z (by omega)) (fun j hj e _ => h17.1 j hj e) (fun z _ => h17.2 z) (br_t rfl ?_))
    exact rt_283 hk hq he hd hg ok rfl (by rw [e1]; exact hh) (fun _ => rfl) (fun z => absurd rfl z) (by rw [e1]; exact h15) (by rw [e1]; exact h16) (fun _ => ⟨rfl, rfl⟩) (fun z => absurd rfl z) (fun z => absurd rfl z) hp
  refine br_c (fun h => rt_104z (main _ _ ⟨fun a ha e i => ?_, fun _ => ⟨rfl, rfl⟩⟩)) (fun h => br_c (fun h' => rt_104z (main _ _ ⟨fun a ha e i => ?_, fun _ => ⟨rfl, rfl⟩⟩)) (fun h' => rt_104h (main _ _ ⟨fun a ha e i => ⟨rfl, rfl⟩, fun z => ?_⟩)))
  · rw [e, nI_ltI (by omega) (by omega)] at h
    omega
  · rw [e, nI_ltI (by omega) (by omega)] at h'
    omega
  · exfalso
    rcases pk_ix x3 (n := 256) (by decide) with y | y | ⟨a, ha, e⟩
    · apply h
      rw [Int32.lt_iff_toInt_lt, nI_toInt (by omega)]
      rw [Int32.lt_iff_toInt_lt, show (0 : Int32).toInt = 0 from by decide] at y
      omega
    · apply h'
      rw [Int32.lt_iff_toInt_lt, nI_toInt (by omega)]
      rw [Int32.le_iff_toInt_le, nI_toInt (by decide)] at y
      omega
    · rw [e, nI_ltI (by omega) (by omega)] at h
      rw [e, nI_ltI (by omega) (by omega)] at h'
      exact z a ha e (by omega)
/-- a goal that doesn't fit -/
theorem rt_63N {post : Int32 → St0 → Prop} {mc ms kc ks k q : Nat} {x2 x3 x4 x8 x9 : Int32} (hk : k < 9) (hq : q < 2 ^ k) (he : q * 2 ^ (8 - k) + 2 ^ (8 - k) ≤ 256) (hd : q * 2 ^ (8 - k) / 2 ^ (8 - k) = q) (hg : x2 < 0 ∨ ¬ x2 ≤ 99) (hp : post 1 ()) :
    wL_lawOf_63 post mc ms x2 x3 x4 (nI k) (nI (q * 2 ^ (8 - k))) x8 x9 0 kc ks 0 0 (fun _ => 0) (fun _ => 0) (fun _ => 0) := by
  have hs : 0 < 2 ^ (8 - k) := (rt_pw k hk).2
  have hf : q * 2 ^ (8 - k) < 256 := by omega
  have ok := rt_ok0 k q 0
  have e1 : rt_e false k q = q * 2 ^ (8 - k) := by unfold rt_e; rw [if_neg (by decide)]
  have hG := rt_isG (c := 0) hk hq ok
  rw [e1] at hG
  have fin : ∀ x18 : Int32, (x2 = -1 → x18 = nI 256) → (¬ x2 = -1 → x18 = 0) → wL_lawOf_261 post mc ms x2 x3 x4 (nI k) (nI (q * 2 ^ (8 - k))) 0 (-1) (-1) (-1) 1 (-1) (-1) x18 kc ks 0 0 (fun _ => 0) (fun _ => 0) (fun _ => 0) := by
    intro x18 c1 c2
    have last : wL_lawOf_283 post mc ms x2 x3 (nI k) (nI (q * 2 ^ (8 - k))) 0 (-1) (-1) (-1) 1 (-1) x18 kc ks 0 0 (fun _ => 0) (fun _ => 0) (fun _ => 0) := by
      refine rt_283 hk hq he hd (g := 0) (by omega) ok rfl ?_ (fun z => absurd z (by decide)) (fun _ => rfl) ?_ ?_ (fun z => absurd z (by decide)) (fun _ => c1) (fun _ => c2) hp
      · rw [e1]
        exact ⟨fun a _ _ i => absurd i (by omega), fun _ => ⟨rfl, rfl⟩⟩
      · rw [e1, if_neg (by omega), if_neg (by omega)]
        rfl
      · rw [e1]
        exact ⟨256, by omega, by omega, by omega, by omega, fun _ => rfl, by omega⟩
    unfold wL_lawOf_261
    exact br_c (fun _ => last) (fun h => rt_next hG (by omega) h (fun z => absurd z (by omega)) (by omega) (fun _ => rfl) (fun j _ _ z => absurd z (by omega)) (fun _ z => absurd z (by omega)) (br_t rfl last))
  unfold wL_lawOf_63
  refine rt_putN hk hq hf hg (br_t rfl (br_t rfl ?_))
  unfold wL_lawOf_103 wL_lawOf_104
  refine br_t rfl ?_
  unfold wL_lawOf_116
  refine br_t rfl ?_
  unfold wL_lawOf_129
  refine br_t rfl ?_
  unfold wL_lawOf_142
  refine br_t rfl ?_
  unfold wL_lawOf_157 wL_lawOf_179
  refine br_t rfl ?_
  unfold wL_lawOf_205
  refine br_t rfl ?_
  unfold wL_lawOf_219 wL_lawOf_237
  exact br_t rfl (br_c (fun h => fin _ (fun _ => rfl) (fun z => absurd h z)) (fun h => fin _ (fun z => absurd z h) (fun _ => rfl)))
theorem rt_lawOf {post : Int32 → St0 → Prop} (p0 p1 p2 p3 p4 : Int32) (hp : post 1 ()) : wpL_lawOf post 82 1312 () p0 p1 p2 p3 p4 := by
  unfold wpL_lawOf
  refine ⟨by omega, by omega, 3, 527, by omega, by omega, ?_⟩
  unfold wpX_init
  refine ⟨by omega, by omega, by omega, by omega, by omega, by omega, by decide, ?_⟩
  obtain ⟨m, hm, em⟩ := pk_andE p1 31 (m := 2147483647) (by decide)
  obtain ⟨t, ht, et⟩ := pk_andE p0 8 (m := 255) (by decide)
  have hk : m % 9 < 9 := Nat.mod_lt _ (by omega)
  refine nm_r (e' := nI (m % 9)) (by rw [em]; exact pk_rem (d := 9) hm (by omega) (by omega)) ?_
  generalize m % 9 = k at hk ⊢
  have hs : 0 < 2 ^ (8 - k) := (rt_pw k hk).2
  have hw : 2 ^ k * 2 ^ (8 - k) = 256 := (rt_pw k hk).1
  have hq : t / 2 ^ (8 - k) < 2 ^ k := (Nat.div_lt_iff_lt_mul hs).mpr (by rw [hw]; exact ht)
  refine nm_r (e' := nI (t / 2 ^ (8 - k) * 2 ^ (8 - k))) ?_ ?_
  · rw [Int32.and_assoc, Int32.and_comm _ 255, ← Int32.and_assoc, et]
    exact rt_fst k hk t ht
  generalize t / 2 ^ (8 - k) = q at hq ⊢
  have hd : q * 2 ^ (8 - k) / 2 ^ (8 - k) = q := Nat.mul_div_cancel q hs
  have he : q * 2 ^ (8 - k) + 2 ^ (8 - k) ≤ 256 := by
    rw [← hw, ← Nat.succ_mul]
    exact Nat.mul_le_mul_right _ hq
  refine nm_r (rt_siz k hk) (nm_r (e' := nI (q * 2 ^ (8 - k) + 2 ^ (8 - k) - 1)) ?_ ?_)
  · rw [nI_add]
    exact pk_sub (b := 1) (by omega)
  refine br_c (fun h => ?_) (fun h => br_c (fun h' => ?_) (fun h' => ?_))
  · exact rt_63N hk hq he hd (Or.inl h) hp
  · refine rt_63N hk hq he hd (Or.inr (fun z => ?_)) hp
    rw [Int32.lt_iff_toInt_lt] at h'
    rw [Int32.le_iff_toInt_le] at z
    omega
  · obtain ⟨g, hg, rfl⟩ := nI_of2 (M := 99) (n := 99) (by decide) h (by
      rw [Int32.lt_iff_toInt_lt] at h'
      rw [Int32.le_iff_toInt_le]
      omega)
    exact rt_63F hk hq he hd (by omega) hp
end
section
/-! part 06: the owed statement -/
theorem rt_cell {post : Int32 → Prop} {L : Nat} {xs : Nat → Int32} (hL : L ≤ 5) (i : Nat) (hi : i < 5) (h : ∀ x, post x) : wpL_cellAt post L xs () (nI i) := by
  unfold wpL_cellAt
  exact pk_le L i (fun _ => h _) (fun z => ⟨pk_in i L z, h _⟩)
theorem i_vc (xs : Nat → Int32) (L : Nat) (hL : L ≤ 5) : wpL_law (fun r => r = 1) L xs := by
  unfold wpL_law
  exact rt_cell hL 0 (by omega) (fun r1 => rt_cell hL 1 (by omega) (fun r2 => rt_cell hL 2 (by omega) (fun r3 => rt_cell hL 3 (by omega) (fun r4 => rt_cell hL 4 (by omega) (fun r5 => ⟨82, 1312, by omega, by omega, rt_lawOf r1 r2 r3 r4 r5 rfl⟩)))))
end
