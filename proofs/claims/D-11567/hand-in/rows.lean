section
/-! the pure picture: shapes as numbers, the search as a machine over naturals, its answers by table -/
def td_sz (s : Nat) : Nat := s / 100 + s / 10 % 10 + s % 10
def td_sh (s : Nat) : Bool := decide (s ≤ 600 ∧ s / 10 % 10 ≤ s / 100 ∧ s % 10 ≤ s / 10 % 10 ∧ td_sz s ≤ 6)
/-- cell m doesn't forbid the number x at cell t -/
def td_ok (ro pl nm : Nat → Nat) (t x m : Nat) : Bool := decide (¬ ((ro m = ro t ∧ pl m = pl t + 1) ∧ nm m < x) ∧ ¬ ((ro m + 1 = ro t ∧ pl m = pl t) ∧ x ≤ nm m))
def td_fit (ro pl nm : Nat → Nat) (t x : Nat) : Nat → Bool
  | 0 => true
  | m + 1 => td_fit ro pl nm t x m && td_ok ro pl nm t x m
def td_en (cn ct : Nat → Nat) (x : Nat) : Bool := decide (cn x < ct (x - 1) ∧ (x = 1 ∨ cn x < cn (x - 1)))
def td_g (ro pl nm cn ct : Nat → Nat) (t x : Nat) : Bool := td_en cn ct x && td_fit ro pl nm t x t
def td_least (g : Nat → Bool) (v : Nat) : Nat := if v < 1 ∧ g 1 = true then 1 else if v < 2 ∧ g 2 = true then 2 else if v < 3 ∧ g 3 = true then 3 else 0
def td_put (f : Nat → Nat) (k v : Nat) : Nat → Nat := fun j => if j = k then v else f j
/-- the search: none where it leaves what the picture covers -/
def td_run (n : Nat) (ro pl ct : Nat → Nat) : Nat → Nat → Nat → (Nat → Nat) → (Nat → Nat) → Option Nat
  | 0, _, _, _, _ => none
  | f + 1, found, t, nm, cn =>
    if t = n then
      match t with
      | 0 => some (found + 1)
      | t' + 1 => td_run n ro pl ct f (found + 1) t' nm cn
    else if nm t = 0 then
      match td_least (td_g ro pl nm cn ct t) 0 with
      | 0 => match t with
        | 0 => some found
        | t' + 1 => td_run n ro pl ct f found t' (td_put nm (t' + 1) 0) cn
      | v + 1 => td_run n ro pl ct f found (t + 1) (td_put nm t (v + 1)) (td_put cn (v + 1) (cn (v + 1) + 1))
    else if cn (nm t) = 0 then none
    else
      match td_least (td_g ro pl nm (td_put cn (nm t) (cn (nm t) - 1)) ct t) (nm t) with
      | 0 => match t with
        | 0 => some found
        | t' + 1 => td_run n ro pl ct f found t' (td_put nm (t' + 1) 0) (td_put cn (nm (t' + 1)) (cn (nm (t' + 1)) - 1))
      | v + 1 => td_run n ro pl ct f found (t + 1) (td_put nm t (v + 1)) (td_put (td_put cn (nm t) (cn (nm t) - 1)) (v + 1) (td_put cn (nm t) (cn (nm t) - 1) (v + 1) + 1))
def td_rw (d0 d1 : Nat) (j : Nat) : Nat := if j < d0 then 0 else if j < d0 + d1 then 1 else 2
def td_pl (l0 l1 l2 d0 d1 : Nat) (j : Nat) : Nat := if j < d0 then l0 - 1 - j else if j < d0 + d1 then l1 - 1 - (j - d0) else l2 - 1 - (j - (d0 + d1))
def td_ct (b : Nat) (j : Nat) : Nat := if j = 0 then b / 100 else if j = 1 then b / 10 % 10 else b % 10
def td_cnt (p q r b s : Nat) : Option Nat :=
  if s / 100 < p ∨ s / 10 % 10 < q ∨ s % 10 < r then some 0
  else if td_sz s = p + q + r + td_sz b then
    td_run (s / 100 - p + (s / 10 % 10 - q) + (s % 10 - r)) (td_rw (s / 100 - p) (s / 10 % 10 - q)) (td_pl (s / 100) (s / 10 % 10) (s % 10) (s / 100 - p) (s / 10 % 10 - q)) (td_ct b) 40 0 0 (fun _ => 0) (fun _ => 0)
  else some 0
def td_strip (p q r i j z : Nat) : Bool := decide (p ≤ i ∧ j ≤ p ∧ q ≤ j ∧ z ≤ q ∧ r ≤ z)
def td_side (p q r i j z : Nat) : Bool := decide (p ≤ i ∧ i ≤ p + 1 ∧ q ≤ j ∧ j ≤ q + 1 ∧ r ≤ z ∧ z ≤ r + 1)
/-- what the search finds for the row, for the column -/
def td_gr (F : Nat → Nat → Nat → Bool) (n s : Nat) : Nat := if td_sz s = n ∧ F (s / 100) (s / 10 % 10) (s % 10) = true then 1 else 0
/-- what the law's loops add at i, j -/
def td_tm (F : Nat → Nat → Nat → Bool) (n i j : Nat) : Nat := if (j ≤ i ∧ i + j ≤ n ∧ n - i - j ≤ j) ∧ F i j (n - i - j) = true then 1 else 0
def td_s2 (f : Nat → Nat → Nat) (i : Nat) : Nat → Nat
  | 0 => 0
  | j + 1 => td_s2 f i j + f i j
def td_s1 (f : Nat → Nat → Nat) : Nat → Nat
  | 0 => 0
  | i + 1 => td_s1 f i + td_s2 f i 7
def td_ps (g : Nat → Nat) : Nat → Nat
  | 0 => 0
  | n + 1 => td_ps g n + (if td_sh n = true then g n else 0)
def td_col (k : Nat) : Nat := if k = 0 then 0 else if k = 1 then 100 else if k = 2 then 110 else 111
/-- the shapes -/
def td_L : List Nat := [0, 100, 110, 111, 200, 210, 211, 220, 221, 222, 300, 310, 311, 320, 321, 330, 400, 410, 411, 420, 500, 510, 600]
def td_tab (p q r k : Nat) : Bool :=
  td_L.all (fun s => td_cnt p q r (100 * k) s == some (td_gr (td_strip p q r) (p + q + r + k) s)) &&
  (decide (3 < k) || td_L.all (fun s => td_cnt p q r (td_col k) s == some (td_gr (td_side p q r) (p + q + r + k) s))) &&
  ((td_L.map (td_gr (td_strip p q r) (p + q + r + k))).sum == td_s1 (td_tm (td_strip p q r) (p + q + r + k)) 7) &&
  ((td_L.map (td_gr (td_side p q r) (p + q + r + k))).sum == td_s1 (td_tm (td_side p q r) (p + q + r + k)) 7)
set_option maxRecDepth 100000 in
theorem td_range : (List.range 601).filter td_sh = td_L := by decide +kernel
def td_all : Bool := (List.range 4).all (fun p => (List.range 4).all (fun q => (List.range 4).all (fun r => (List.range 7).all (fun k => !decide (q ≤ p ∧ r ≤ q ∧ p + q + r + k ≤ 6) || td_tab p q r k))))
set_option maxRecDepth 100000 in
theorem td_allT : td_all = true := by decide +kernel
theorem td_tabs (p : Nat) (hp : p < 4) (q : Nat) (hq : q < 4) (r : Nat) (hr : r < 4) (k : Nat) (hk : k < 7) (h1 : q ≤ p) (h2 : r ≤ q) (h3 : p + q + r + k ≤ 6) : td_tab p q r k = true := by
  have h := List.all_eq_true.mp (List.all_eq_true.mp (List.all_eq_true.mp (List.all_eq_true.mp td_allT p (List.mem_range.mpr hp)) q (List.mem_range.mpr hq)) r (List.mem_range.mpr hr)) k (List.mem_range.mpr hk)
  rw [Bool.or_eq_true] at h
  rcases h with h | h
  · rw [decide_eq_true ⟨h1, h2, h3⟩] at h
    exact absurd h (by decide)
  · exact h
theorem td_mem {s : Nat} (h : td_sh s = true) : s ∈ td_L := by
  have h6 : s ≤ 600 := (of_decide_eq_true h).1
  rw [← td_range, List.mem_filter]
  exact ⟨List.mem_range.mpr (by omega), h⟩
theorem td_psL (g : Nat → Nat) (n : Nat) : td_ps g n = (((List.range n).filter td_sh).map g).sum := by
  induction n with
  | zero => rfl
  | succ n ih =>
    rw [List.range_succ, List.filter_append, List.map_append, List.sum_append, ← ih]
    show td_ps g n + _ = _
    by_cases h : td_sh n = true
    · rw [if_pos h]
      simp [List.filter, h]
    · rw [if_neg h]
      simp [List.filter, h]
theorem td_ps601 (g : Nat → Nat) : td_ps g 601 = (td_L.map g).sum := by
  rw [td_psL, td_range]
/-- what the table says of one kept shape and one k -/
theorem td_fact {p q r k : Nat} (hp : p < 4) (hq : q ≤ p) (hr : r ≤ q) (hk : p + q + r + k ≤ 6) :
    (∀ s, td_sh s = true → td_cnt p q r (100 * k) s = some (td_gr (td_strip p q r) (p + q + r + k) s)) ∧
    (k ≤ 3 → ∀ s, td_sh s = true → td_cnt p q r (td_col k) s = some (td_gr (td_side p q r) (p + q + r + k) s)) ∧
    td_ps (td_gr (td_strip p q r) (p + q + r + k)) 601 = td_s1 (td_tm (td_strip p q r) (p + q + r + k)) 7 ∧
    td_ps (td_gr (td_side p q r) (p + q + r + k)) 601 = td_s1 (td_tm (td_side p q r) (p + q + r + k)) 7 := by
  have h := td_tabs p hp q (by omega) r (by omega) k (by omega) hq hr hk
  unfold td_tab at h
  rw [Bool.and_eq_true, Bool.and_eq_true, Bool.and_eq_true] at h
  obtain ⟨⟨⟨h1, h2⟩, h3⟩, h4⟩ := h
  refine ⟨fun s hs => ?_, fun h3k s hs => ?_, ?_, ?_⟩
  · exact eq_of_beq (List.all_eq_true.mp h1 s (td_mem hs))
  · rw [Bool.or_eq_true] at h2
    rcases h2 with h2 | h2
    · exact absurd (of_decide_eq_true h2) (by omega)
    · exact eq_of_beq (List.all_eq_true.mp h2 s (td_mem hs))
  · rw [td_ps601]
    exact eq_of_beq h3
  · rw [td_ps601]
    exact eq_of_beq h4
end
section
/-! numbers, and the methods that neither loop nor store -/
theorem td_d0 {s : Nat} (h : s < 2 ^ 31) : nI s / 100 = nI (s / 100) := pk_div (d := 100) h (by decide) (by decide)
theorem td_d10 {s : Nat} (h : s < 2 ^ 31) : nI s / 10 = nI (s / 10) := pk_div (d := 10) h (by decide) (by decide)
theorem td_d2 {s : Nat} (h : s < 2 ^ 31) : nI s - nI s / 10 * 10 = nI (s % 10) := pk_rem (d := 10) h (by decide) (by decide)
theorem td_d1 {s : Nat} (h : s < 2 ^ 31) : nI s / 10 - nI s / 10 / 10 * 10 = nI (s / 10 % 10) := by
  rw [td_d10 h]
  exact td_d2 (by omega)
theorem td_em1 {a b : Nat} (ha : a < 2 ^ 30) (hb : b < 2 ^ 30) : nI a = nI b - 1 ↔ a + 1 = b := by
  rw [← nI_eq (a := a + 1) (b := b) (by omega) (by omega), ← nI_1]
  constructor
  · intro h
    rw [h]
    grind
  · intro h
    rw [← h]
    grind
theorem td_m1 (x : Int32) : x + (-1) = x - 1 := by grind
theorem td_m0 : nI 0 + (-1) = (-1 : Int32) := by decide
theorem td_low : ∀ k, k < 10 → nI k - 1 < nI k := by decide
theorem td_digits {p q r : Nat} (hq : q < 10) (hr : r < 10) : (100 * p + 10 * q + r) / 100 = p ∧ (100 * p + 10 * q + r) / 10 % 10 = q ∧ (100 * p + 10 * q + r) % 10 = r := by
  omega
theorem td_szD {p q r : Nat} (hq : q < 10) (hr : r < 10) : td_sz (100 * p + 10 * q + r) = p + q + r := by
  unfold td_sz
  obtain ⟨h1, h2, h3⟩ := td_digits (p := p) hq hr
  rw [h1, h2, h3]
theorem td_shD {p q r : Nat} (hq : q ≤ p) (hr : r ≤ q) (h : p + q + r ≤ 6) : td_sh (100 * p + 10 * q + r) = true := by
  obtain ⟨h1, h2, h3⟩ := td_digits (p := p) (q := q) (r := r) (by omega) (by omega)
  unfold td_sh
  rw [td_szD (by omega) (by omega), h1, h2, h3]
  exact decide_eq_true ⟨by omega, hq, hr, h⟩
theorem td_size {post : Int32 → Prop} {s : Nat} (h : s < 2 ^ 31) (H : post (nI (td_sz s))) : wpX_size post () (nI s) := by
  unfold wpX_size
  refine ⟨by decide, by decide, by decide, by decide, ?_⟩
  rw [td_d0 h, td_d1 h, td_d2 h, nI_add, nI_add]
  exact H
theorem td_sizeL {post : Int32 → Prop} {s : Nat} (h : s < 2 ^ 31) (H : post (nI (td_sz s))) : wpL_size post () (nI s) := by
  unfold wpL_size
  refine ⟨by decide, by decide, by decide, by decide, ?_⟩
  rw [td_d0 h, td_d1 h, td_d2 h, nI_add, nI_add]
  exact H
theorem td_szS {s : Nat} (h : s < 2 ^ 31) : td_sz s < 2 ^ 31 := by
  unfold td_sz
  omega
theorem td_shape {post : Int32 → Prop} {s : Nat} (h : s < 2 ^ 31) (H1 : td_sh s = true → post 1) (H0 : td_sh s = false → post 0) : wpX_isShape post () (nI s) := by
  unfold wpX_isShape
  refine br_f (nI_pos h) (pk_le s 600 (fun h6 => ⟨by decide, by decide, nm_r (td_d1 h) ⟨by decide, ?_⟩⟩) (fun h6 => H0 (decide_eq_false (fun t => by omega))))
  rw [td_d0 h, td_d2 h]
  refine pk_lt (s / 100) (s / 10 % 10) (fun g => H0 (decide_eq_false (fun t => by omega))) (fun g1 => ⟨by decide, ?_⟩)
  refine pk_lt (s / 10 % 10) (s % 10) (fun g => H0 (decide_eq_false (fun t => by omega))) (fun g2 => td_size h ?_)
  exact pk_lt 6 (td_sz s) (fun g => H0 (decide_eq_false (fun t => by omega))) (fun g3 => H1 (decide_eq_true ⟨h6, g1, g2, g3⟩)) rfl rfl (by decide) (td_szS h)
theorem td_shapeY {post : Int32 → Prop} {s : Nat} (h : td_sh s = true) (H : post 1) : wpX_isShape post () (nI s) := by
  have h6 : s ≤ 600 := (of_decide_eq_true h).1
  exact td_shape (by omega) (fun _ => H) (fun g => absurd h (by rw [g]; decide))
theorem td_shapeN {post : Int32 → Prop} {s : Nat} (hs : s < 2 ^ 31) (h : td_sh s = false) (H : post 0) : wpX_isShape post () (nI s) :=
  td_shape hs (fun g => absurd g (by rw [h]; decide)) (fun _ => H)
/-- any int at all -/
theorem td_shapeA {post : Int32 → Prop} {x : Int32} (H1 : ∀ s : Nat, x = nI s → td_sh s = true → post 1) (H0 : post 0) : wpX_isShape post () x := by
  by_cases h : x < 0
  · unfold wpX_isShape
    exact br_t h H0
  · obtain ⟨s, hs, rfl⟩ := nI_of h
    exact td_shape hs (fun g => H1 s rfl g) (fun _ => H0)
/-- the kept shape -/
def td_K (a1 : Nat → Int32) (p q r : Nat) : Prop := a1 0 = nI p ∧ a1 1 = nI q ∧ a1 2 = nI r
theorem td_kept {post : Int32 → Prop} {c : Int32} {a1 a2 a3 a4 a5 a6 a7 : Nat → Int32} {p q r : Nat} (hK : td_K a1 p q r) (H : post (nI (p + q + r))) : wpX_keptSize post (c, a1, a2, a3, a4, a5, a6, a7) := by
  unfold wpX_keptSize
  dsimp only
  obtain ⟨h0, h1, h2⟩ := hK
  rw [h0, h1, h2, nI_add, nI_add]
  exact H
theorem td_keep {post : Int32 → St2 → Prop} {c : Int32} {a1 a2 a3 a4 a5 a6 a7 : Nat → Int32} {p q r : Nat} (hq : q ≤ p) (hr : r ≤ q) (h : p + q + r ≤ 6) (H : ∀ b1, td_K b1 p q r → post (nI (p + q + r)) (c, b1, a2, a3, a4, a5, a6, a7)) :
    wpX_keep post (c, a1, a2, a3, a4, a5, a6, a7) (nI (100 * p + 10 * q + r)) := by
  obtain ⟨e0, e1, e2⟩ := td_digits (p := p) (q := q) (r := r) (by omega) (by omega)
  unfold wpX_keep
  dsimp only
  have hs : 100 * p + 10 * q + r < 2 ^ 31 := by omega
  refine td_shapeY (td_shD hq hr h) (br_f (by decide) ⟨by decide, nm_r (by rw [td_d0 hs, e0]) ⟨by decide, by decide, nm_r (by rw [td_d1 hs, e1]) ⟨by decide, nm_r (by rw [td_d2 hs, e2]) (td_size hs ?_)⟩⟩⟩)
  rw [td_szD (by omega) (by omega)]
  exact H _ ⟨rfl, rfl, rfl⟩
theorem td_great {post : Int32 → Prop} {c : Int32} {a1 a2 a3 a4 a5 a6 a7 : Nat → Int32} {p q r b : Nat} (hK : td_K a1 p q r) (hb : td_sh b = true) (h : p + q + r + td_sz b ≤ 6) (H : post (nI (100 * p + 10 * q + r + b))) :
    wpX_greatest post (c, a1, a2, a3, a4, a5, a6, a7) (nI b) := by
  have h6 : b ≤ 600 := (of_decide_eq_true hb).1
  unfold wpX_greatest
  dsimp only
  refine td_shapeY hb (br_f (by decide) (td_kept hK (td_size (by omega) ?_)))
  rw [nI_add]
  refine pk_le (p + q + r + td_sz b) 6 (fun _ => ?_) (fun z => absurd z (by omega))
  obtain ⟨h0, h1, h2⟩ := hK
  rw [h0, h1, h2, show (100 : Int32) = nI 100 from rfl, show (10 : Int32) = nI 10 from rfl, pk_mul, pk_mul, nI_add, nI_add, nI_add]
  exact H
end
section
/-! the search: fitsBeside, nextNumber, tryNumbers -/
/-- the cells' rows and places, as the arrays hold them -/
def td_C (n : Nat) (ro pl : Nat → Nat) (a4 a5 : Nat → Int32) : Prop := ∀ j, j < n → a4 j = nI (ro j) ∧ a5 j = nI (pl j) ∧ ro j < 3 ∧ pl j < 7
/-- the numbers -/
def td_N (n : Nat) (nm : Nat → Nat) (a6 : Nat → Int32) : Prop := ∀ j, j < n → a6 j = nI (nm j) ∧ nm j < 4
/-- the counts -/
def td_U (st : Nat) (cn : Nat → Nat) (a7 : Nat → Int32) : Prop := ∀ x, x < 4 → a7 x = nI (cn x) ∧ cn x ≤ st
theorem td_fitI {ro pl nm : Nat → Nat} {t x m : Nat} : td_fit ro pl nm t x m = true ↔ ∀ k, k < m → td_ok ro pl nm t x k = true := by
  induction m with
  | zero => exact ⟨fun _ k hk => absurd hk (by omega), fun _ => rfl⟩
  | succ m ih =>
    show (td_fit ro pl nm t x m && td_ok ro pl nm t x m) = true ↔ _
    rw [Bool.and_eq_true, ih]
    constructor
    · intro h k hk
      by_cases e : k = m
      · rw [e]
        exact h.2
      · exact h.1 k (by omega)
    · intro h
      exact ⟨fun k hk => h k (by omega), h m (by omega)⟩
theorem td_f100 {post J2 : Int32 → Prop} {x1 x5 c : Int32} {a1 a2 a3 a4 a5 a6 a7 : Nat → Int32} {n v x k : Nat} (hk : k < n) (hn : n ≤ 6) (hx : x ≤ 3) (hv : a6 k = nI v) (hv4 : v < 4)
    (H1 : ¬ (¬ x5 = 0 ∧ x ≤ v) → J2 (nI (k + 1))) (H0 : (¬ x5 = 0 ∧ x ≤ v) → post 0) : wX_fitsBeside_100 post J2 x1 (nI x) (nI k) x5 c a1 a2 a3 a4 a5 a6 a7 := by
  unfold wX_fitsBeside_100
  rw [nI_clamp (show k < 2 ^ 31 by omega), hv]
  refine br_c (fun g => nm_r (nI_1 k) (H1 (fun t => t.1 g))) (fun g => ⟨pk_in k 6 (by omega), ?_⟩)
  exact pk_lt v x (fun z => nm_r (nI_1 k) (H1 (fun t => by omega))) (fun z => H0 ⟨g, z⟩)
theorem td_f83 {post J2 : Int32 → Prop} {x1 x4 x5 c : Int32} {a1 a2 a3 a4 a5 a6 a7 : Nat → Int32} {n v x k : Nat} (hk : k < n) (hn : n ≤ 6) (hx : x ≤ 3) (hv : a6 k = nI v) (hv4 : v < 4)
    (H1 : ¬ (¬ x4 = 0 ∧ v < x) → ¬ (¬ x5 = 0 ∧ x ≤ v) → J2 (nI (k + 1))) (H0 : ((¬ x4 = 0 ∧ v < x) ∨ (¬ x5 = 0 ∧ x ≤ v)) → post 0) : wX_fitsBeside_83 post J2 x1 (nI x) (nI k) x4 x5 c a1 a2 a3 a4 a5 a6 a7 := by
  unfold wX_fitsBeside_83
  rw [nI_clamp (show k < 2 ^ 31 by omega), hv]
  refine br_c (fun g => td_f100 hk hn hx hv hv4 (H1 (fun t => t.1 g)) (fun t => H0 (Or.inr t))) (fun g => ⟨pk_in k 6 (by omega), ?_⟩)
  exact pk_lt v x (fun z => H0 (Or.inl ⟨g, z⟩)) (fun z => td_f100 hk hn hx hv hv4 (H1 (fun t => by omega)) (fun t => H0 (Or.inr t)))
theorem td_f44 {post J2 : Int32 → Prop} {x4 c : Int32} {a1 a2 a3 a4 a5 a6 a7 : Nat → Int32} {ro pl nm : Nat → Nat} {n t x k : Nat} (hC : td_C n ro pl a4 a5) (hN : td_N n nm a6) (hk : k < n) (ht : t < n) (hn : n ≤ 6) (hx : x ≤ 3)
    (hz : ¬ x4 = 0 ↔ (ro k = ro t ∧ pl k = pl t + 1))
    (H1 : td_ok ro pl nm t x k = true → J2 (nI (k + 1))) (H0 : td_ok ro pl nm t x k = false → post 0) : wX_fitsBeside_44 post J2 (nI t) (nI x) (nI k) x4 c a1 a2 a3 a4 a5 a6 a7 := by
  obtain ⟨k4, k5, kr, kp⟩ := hC k hk
  obtain ⟨t4, t5, tr, tp⟩ := hC t ht
  obtain ⟨k6, kn⟩ := hN k hk
  have G : ∀ x5 : Int32, (¬ x5 = 0 ↔ (ro k + 1 = ro t ∧ pl k = pl t)) → wX_fitsBeside_83 post J2 (nI t) (nI x) (nI k) x4 x5 c a1 a2 a3 a4 a5 a6 a7 := by
    intro x5 h5
    refine td_f83 hk hn hx k6 kn (fun g1 g2 => H1 (decide_eq_true ⟨?_, ?_⟩)) (fun g => H0 (decide_eq_false (fun u => ?_)))
    · rw [← hz]
      exact g1
    · rw [← h5]
      exact g2
    · rw [← hz, ← h5] at u
      rcases g with g | g
      · exact u.1 g
      · exact u.2 g
  unfold wX_fitsBeside_44
  rw [nI_clamp (show k < 2 ^ 31 by omega), nI_clamp (show t < 2 ^ 31 by omega), k4, t4, k5, t5]
  refine ⟨pk_in k 6 (by omega), pk_in t 6 (by omega), ek_if (td_em1 (by omega) (by omega)) (fun e1 => ⟨pk_in k 6 (by omega), pk_in t 6 (by omega), ek_if (nI_eq (by omega) (by omega)) (fun e2 => ?_) (fun e2 => ?_)⟩) (fun e1 => ?_)⟩
  · exact G 1 ⟨fun _ => ⟨e1, e2⟩, fun _ => by decide⟩
  · exact G 0 ⟨fun g => absurd rfl g, fun g => absurd g.2 e2⟩
  · exact G 0 ⟨fun g => absurd rfl g, fun g => absurd g.1 e1⟩
theorem td_fits {post : Int32 → Prop} {c : Int32} {a1 a2 a3 a4 a5 a6 a7 : Nat → Int32} {ro pl nm : Nat → Nat} {n t x : Nat} (hC : td_C n ro pl a4 a5) (hN : td_N n nm a6) (ht : t < n) (hn : n ≤ 6) (hx : x ≤ 3)
    (H1 : td_fit ro pl nm t x t = true → post 1) (H0 : td_fit ro pl nm t x t = false → post 0) : wpX_fitsBeside post (c, a1, a2, a3, a4, a5, a6, a7) (nI t) (nI x) := by
  unfold wpX_fitsBeside
  dsimp only
  refine pk_loop (σ := Unit) (fun n i _ => wX_fitsBeside_2 post (nI t) (nI x) c a1 a2 a3 a4 a5 a6 a7 n (nI i)) (fun i _ => ∀ k, k < i → td_ok ro pl nm t x k = true) t 0 () (by omega) (fun k hk => absurd hk (by omega)) ?_ ?_
  · intro f _ hI
    exact pk_le t t (fun _ => H1 (td_fitI.mpr hI)) (fun z => absurd z (by omega))
  · intro f k _ hk hI hw
    obtain ⟨k4, k5, kr, kp⟩ := hC k (by omega)
    obtain ⟨t4, t5, tr, tp⟩ := hC t ht
    have G : ∀ x4 : Int32, (¬ x4 = 0 ↔ (ro k = ro t ∧ pl k = pl t + 1)) → wX_fitsBeside_44 post (wX_fitsBeside_2 post (nI t) (nI x) c a1 a2 a3 a4 a5 a6 a7 f) (nI t) (nI x) (nI k) x4 c a1 a2 a3 a4 a5 a6 a7 := by
      intro x4 hz
      refine td_f44 hC hN (by omega) ht hn hx hz (fun g => ?_) (fun g => H0 ?_)
      · refine hw () (fun j hj => ?_)
        by_cases e : j = k
        · rw [e]
          exact g
        · exact hI j (by omega)
      · rw [Bool.eq_false_iff]
        intro z
        rw [td_fitI.mp z k hk] at g
        exact absurd g (by decide)
    show wX_fitsBeside_2 post (nI t) (nI x) c a1 a2 a3 a4 a5 a6 a7 (f + 1) (nI k)
    unfold wX_fitsBeside_2
    rw [nI_clamp (show k < 2 ^ 31 by omega), nI_clamp (show t < 2 ^ 31 by omega), k4, t4, k5, t5, nI_1]
    refine br_f (nI_ge hk (by omega)) ⟨pk_in k 6 (by omega), pk_in t 6 (by omega), ek_if (nI_eq (by omega) (by omega)) (fun e1 => ⟨pk_in k 6 (by omega), pk_in t 6 (by omega), ek_if (nI_eq (by omega) (by omega)) (fun e2 => ?_) (fun e2 => ?_)⟩) (fun e1 => ?_)⟩
    · exact G 1 ⟨fun _ => ⟨e1, e2⟩, fun _ => by decide⟩
    · exact G 0 ⟨fun g => absurd rfl g, fun g => absurd g.2 e2⟩
    · exact G 0 ⟨fun g => absurd rfl g, fun g => absurd g.1 e1⟩
theorem td_least1 {g : Nat → Bool} {v y : Nat} (h1 : v < y) (h2 : y ≤ 3) (h3 : g y = true) (h4 : ∀ z, v < z → z < y → g z = false) : td_least g v = y := by
  unfold td_least
  have hy : y = 1 ∨ y = 2 ∨ y = 3 := by omega
  rcases hy with rfl | rfl | rfl
  · rw [if_pos ⟨h1, h3⟩]
  · have e : ¬ (v < 1 ∧ g 1 = true) := fun t => by
      rw [h4 1 t.1 (by decide)] at t
      exact absurd t.2 (by decide)
    rw [if_neg e, if_pos ⟨h1, h3⟩]
  · have e : ¬ (v < 1 ∧ g 1 = true) := fun t => by
      rw [h4 1 t.1 (by decide)] at t
      exact absurd t.2 (by decide)
    have e' : ¬ (v < 2 ∧ g 2 = true) := fun t => by
      rw [h4 2 t.1 (by decide)] at t
      exact absurd t.2 (by decide)
    rw [if_neg e, if_neg e', if_pos ⟨h1, h3⟩]
theorem td_least0 {g : Nat → Bool} {v : Nat} (h4 : ∀ z, v < z → z < 4 → g z = false) : td_least g v = 0 := by
  unfold td_least
  have e : ∀ z, z < 4 → ¬ (v < z ∧ g z = true) := fun z hz t => by
    rw [h4 z t.1 hz] at t
    exact absurd t.2 (by decide)
  rw [if_neg (e 1 (by decide)), if_neg (e 2 (by decide)), if_neg (e 3 (by decide))]
theorem td_leastLe (g : Nat → Bool) (v : Nat) : td_least g v ≤ 3 := by
  unfold td_least
  split
  · decide
  · split
    · decide
    · split
      · decide
      · decide
/-- the content -/
def td_T (ct : Nat → Nat) (a3 : Nat → Int32) : Prop := ∀ j, j < 3 → a3 j = nI (ct j) ∧ ct j < 10
theorem td_next {post : Int32 → Prop} {c : Int32} {a1 a2 a3 a4 a5 a6 a7 : Nat → Int32} {ro pl nm cn ct : Nat → Nat} {n t st : Nat} (hC : td_C n ro pl a4 a5) (hN : td_N n nm a6) (hU : td_U st cn a7) (hT : td_T ct a3) (ht : t < n) (hn : n ≤ 6) (hst : st ≤ 5000)
    (H : post (nI (td_least (td_g ro pl nm cn ct t) (nm t)))) : wpX_nextNumber post (c, a1, a2, a3, a4, a5, a6, a7) (nI t) := by
  obtain ⟨t6, tn⟩ := hN t ht
  unfold wpX_nextNumber
  dsimp only
  rw [nI_clamp (show t < 2 ^ 31 by omega), t6]
  refine ⟨pk_in t 6 (by omega), nm_r (nI_1 _) ?_⟩
  refine pk_loop (σ := Unit) (fun f x _ => wX_nextNumber_9 post (nI t) c a1 a2 a3 a4 a5 a6 a7 f (nI x)) (fun x _ => nm t < x ∧ ∀ z, nm t < z → z < x → td_g ro pl nm cn ct t z = false) 4 (nm t + 1) () (by omega) ⟨by omega, fun z h1 h2 => absurd h1 (by omega)⟩ ?_ ?_
  · intro f _ hI
    rw [td_least0 hI.2] at H
    exact pk_lt 3 4 (fun _ => H) (fun z => absurd z (by omega))
  · intro f x _ hx hI hw
    obtain ⟨hv, hI⟩ := hI
    have hgo : td_g ro pl nm cn ct t x = false → wX_nextNumber_9 post (nI t) c a1 a2 a3 a4 a5 a6 a7 f (nI (x + 1)) := by
      intro g
      refine hw () ⟨by omega, fun z h1 h2 => ?_⟩
      by_cases e : z = x
      · rw [e]
        exact g
      · exact hI z h1 (by omega)
    have hgood : td_g ro pl nm cn ct t x = true → post (nI x) := by
      intro g
      rw [td_least1 hv (by omega) g hI] at H
      exact H
    obtain ⟨u7, us⟩ := hU x hx
    have e57 : td_en cn ct x = false → wX_nextNumber_57 post (wX_nextNumber_9 post (nI t) c a1 a2 a3 a4 a5 a6 a7 f) (nI t) (nI x) c a1 a2 a3 a4 a5 a6 a7 := by
      intro g
      unfold wX_nextNumber_57 wX_nextNumber_58
      exact br_t rfl (nm_r (nI_1 x) (hgo (by unfold td_g; rw [g]; rfl)))
    have e53 : td_en cn ct x = true → wX_nextNumber_53 post (wX_nextNumber_9 post (nI t) c a1 a2 a3 a4 a5 a6 a7 f) (nI t) (nI x) c a1 a2 a3 a4 a5 a6 a7 := by
      intro g
      unfold wX_nextNumber_53 wX_nextNumber_58
      refine br_f (by decide) (td_fits hC hN ht hn (by omega) (fun h => ?_) (fun h => ?_))
      · exact br_f (by decide) (hgood (by unfold td_g; rw [g, h]; rfl))
      · exact br_t rfl (nm_r (nI_1 x) (hgo (by unfold td_g; rw [g, h]; rfl)))
    obtain ⟨y, rfl⟩ : ∃ y, x = y + 1 := ⟨x - 1, by omega⟩
    obtain ⟨y3, y10⟩ := hT y (by omega)
    obtain ⟨w7, ws⟩ := hU y (by omega)
    show wX_nextNumber_9 post (nI t) c a1 a2 a3 a4 a5 a6 a7 (f + 1) (nI (y + 1))
    unfold wX_nextNumber_9
    rw [nI_pred, nI_clamp (show y < 2 ^ 31 by omega), nI_clamp (show y + 1 < 2 ^ 31 by omega), y3, u7, w7]
    refine pk_lt 3 (y + 1) (fun z => absurd z (by omega)) (fun _ => ⟨pk_in (y + 1) 4 hx, pk_in y 3 (by omega), ?_⟩)
    refine pk_le (ct y) (cn (y + 1)) (fun z => e57 (decide_eq_false (fun u => absurd u.1 (by rw [Nat.add_sub_cancel]; omega)))) (fun z => ?_)
    refine pk_eq (y + 1) 1 (fun e => e53 (decide_eq_true ⟨by rw [Nat.add_sub_cancel]; exact z, Or.inl e⟩)) (fun e => ⟨pk_in (y + 1) 4 hx, pk_in y 4 (by omega), ?_⟩)
    exact pk_le (cn y) (cn (y + 1)) (fun w => e57 (decide_eq_false (fun u => by
      rw [Nat.add_sub_cancel] at u
      omega))) (fun w => e53 (decide_eq_true ⟨by rw [Nat.add_sub_cancel]; exact z, Or.inr (by rw [Nat.add_sub_cancel]; exact w)⟩))
theorem td_putN {n t v : Nat} {nm : Nat → Nat} {a6 : Nat → Int32} (hN : td_N n nm a6) (hv : v < 4) : td_N n (td_put nm t v) (upd a6 t (nI v)) := by
  intro j hj
  unfold td_put
  by_cases e : j = t
  · rw [e, pk_us, if_pos rfl]
    exact ⟨rfl, hv⟩
  · rw [pk_un e, if_neg e]
    exact hN j hj
theorem td_putU {st st' x v : Nat} {cn : Nat → Nat} {a7 : Nat → Int32} (hU : td_U st cn a7) (hs : st ≤ st') (hv : v ≤ st') : td_U st' (td_put cn x v) (upd a7 x (nI v)) := by
  intro j hj
  unfold td_put
  by_cases e : j = x
  · rw [e, pk_us, if_pos rfl]
    exact ⟨rfl, hv⟩
  · rw [pk_un e, if_neg e]
    exact ⟨(hU j hj).1, Nat.le_trans (hU j hj).2 hs⟩
theorem td_last {post : Int32 → St2 → Prop} {c x1 x3 : Int32} {a1 a2 a3 a4 a5 a6 a7 : Nat → Int32} {m : Nat} (H : post x1 (c, a1, a2, a3, a4, a5, a6, a7)) : wX_tryNumbers_6 post c (m + 1) x1 (-1) x3 a1 a2 a3 a4 a5 a6 a7 := by
  unfold wX_tryNumbers_6
  exact br_c (fun _ => H) (fun _ => br_t (by decide) H)
/-- one number sought and stored, the way on -/
theorem td_t58 {post : Int32 → St2 → Prop} {J6 : Int32 → Int32 → Int32 → (Nat → Int32) → (Nat → Int32) → (Nat → Int32) → (Nat → Int32) → (Nat → Int32) → (Nat → Int32) → (Nat → Int32) → Prop} {x1 c : Int32} {a1 a2 a3 a4 a5 a6 a7 : Nat → Int32} {ro pl nm cn ct : Nat → Nat} {n t st : Nat}
    (hC : td_C n ro pl a4 a5) (hN : td_N n nm a6) (hU : td_U st cn a7) (hT : td_T ct a3) (ht : t < n) (hn : n ≤ 6) (hst : st < 5000)
    (H0 : td_least (td_g ro pl nm cn ct t) (nm t) = 0 → ∀ b6, td_N n (td_put nm t 0) b6 → J6 x1 (nI t + (-1)) (nI (st + 1)) a1 a2 a3 a4 a5 b6 a7)
    (H1 : ∀ v, td_least (td_g ro pl nm cn ct t) (nm t) = v + 1 → ∀ b6 b7, td_N n (td_put nm t (v + 1)) b6 → td_U (st + 1) (td_put cn (v + 1) (cn (v + 1) + 1)) b7 → J6 x1 (nI (t + 1)) (nI (st + 1)) a1 a2 a3 a4 a5 b6 b7) :
    wX_tryNumbers_58 post J6 x1 (nI t) (nI st) c a1 a2 a3 a4 a5 a6 a7 := by
  unfold wX_tryNumbers_58
  refine td_next hC hN hU hT ht hn (by omega) ⟨pk_in t 6 (by omega), nm_r (by rw [nI_clamp (show t < 2 ^ 31 by omega)]) ⟨pk_in t 6 (by omega), ?_⟩⟩
  rw [nI_clamp (show t < 2 ^ 31 by omega), pk_us]
  have h3 : td_least (td_g ro pl nm cn ct t) (nm t) ≤ 3 := td_leastLe _ _
  rcases Nat.eq_zero_or_pos (td_least (td_g ro pl nm cn ct t) (nm t)) with e | e
  · rw [e]
    exact br_t rfl (nm_e (nm_r (nI_1 st) (H0 e _ (td_putN hN (by omega)))))
  · obtain ⟨v, hv⟩ : ∃ v, td_least (td_g ro pl nm cn ct t) (nm t) = v + 1 := ⟨td_least (td_g ro pl nm cn ct t) (nm t) - 1, by omega⟩
    have hv3 : v + 1 < 4 := by omega
    rw [hv, nI_clamp (show v + 1 < 2 ^ 31 by omega), (hU (v + 1) hv3).1, nI_1 (cn (v + 1))]
    refine br_f (nI_ne0 (by omega) (by omega)) ⟨pk_in t 6 (by omega), pk_in (v + 1) 4 hv3, pk_in (v + 1) 4 hv3, nm_e (nm_r (nI_1 t) (nm_r (nI_1 st) ?_))⟩
    have := (hU (v + 1) hv3).2
    exact H1 v hv _ _ (td_putN hN hv3) (td_putU hU (by omega) (by omega))
theorem td_try6 {post : Int32 → St2 → Prop} {a1 a2 a3 a4 a5 : Nat → Int32} {ro pl ct : Nat → Nat} {n cc : Nat} (hC : td_C n ro pl a4 a5) (hT : td_T ct a3) (hn : n ≤ 6)
    (H : ∀ b6 b7, post (nI cc) (nI n, a1, a2, a3, a4, a5, b6, b7)) : ∀ (f found t st : Nat) (nm cn : Nat → Nat) (a6 a7 : Nat → Int32), td_run n ro pl ct f found t nm cn = some cc → t ≤ n → st + f ≤ 4000 → td_N n nm a6 → td_U st cn a7 →
      wX_tryNumbers_6 post (nI n) (f + 1) (nI found) (nI t) (nI st) a1 a2 a3 a4 a5 a6 a7 := by
  intro f
  induction f with
  | zero =>
    intro found t st nm cn a6 a7 hr
    unfold td_run at hr
    exact absurd hr.symm (Option.some_ne_none cc)
  | succ f ih =>
    intro found t st nm cn a6 a7 hr ht hf hN hU
    unfold td_run at hr
    unfold wX_tryNumbers_6
    refine pk_le 5000 st (fun z => absurd z (by omega)) (fun _ => br_f (nI_pos (by omega)) ?_)
    refine pk_eq t n (fun e => ?_) (fun e => ⟨pk_in t 6 (by omega), ?_⟩)
    · rw [if_pos e] at hr
      refine nm_r (nI_1 found) ?_
      cases t with
      | zero =>
        have ec : found + 1 = cc := Option.some.inj hr
        rw [ec]
        exact nm_r td_m0 (nm_e (td_last (H _ _)))
      | succ t' =>
        exact nm_r (pk_m1 t') (nm_r (nI_1 st) (ih (found + 1) t' (st + 1) nm cn a6 a7 hr (by omega) (by omega) hN (fun x hx => ⟨(hU x hx).1, Nat.le_succ_of_le (hU x hx).2⟩)))
    · rw [if_neg e] at hr
      have htn : t < n := by omega
      obtain ⟨t6, t4⟩ := hN t htn
      rw [nI_clamp (show t < 2 ^ 31 by omega), t6]
      refine pk_le (nm t) 0 (fun z => ?_) (fun z => ⟨pk_in t 6 (by omega), pk_in (nm t) 4 t4, pk_in (nm t) 4 t4, ?_⟩)
      · have z0 : nm t = 0 := by omega
        rw [if_pos z0] at hr
        refine td_t58 hC hN hU hT htn hn (by omega) (fun g b6 hN6 => ?_) (fun v g b6 b7 hN6 hU7 => ?_)
        · rw [z0] at g
          rw [g] at hr
          dsimp only at hr
          cases t with
          | zero =>
            have ec : found = cc := Option.some.inj hr
            rw [ec, td_m0]
            exact td_last (H _ _)
          | succ t' =>
            rw [pk_m1]
            exact ih found t' (st + 1) _ _ _ _ hr (by omega) (by omega) hN6 (fun x hx => ⟨(hU x hx).1, Nat.le_succ_of_le (hU x hx).2⟩)
        · rw [z0] at g
          rw [g] at hr
          dsimp only at hr
          exact ih found (t + 1) (st + 1) _ _ _ _ hr (by omega) (by omega) hN6 hU7
      · have z0 : ¬ nm t = 0 := by omega
        rw [if_neg z0] at hr
        by_cases y0 : cn (nm t) = 0
        · rw [if_pos y0] at hr
          exact absurd hr.symm (Option.some_ne_none cc)
        rw [if_neg y0] at hr
        obtain ⟨y, ey⟩ : ∃ y, cn (nm t) = y + 1 := ⟨cn (nm t) - 1, by omega⟩
        have us := (hU (nm t) t4).2
        rw [nI_clamp (show nm t < 2 ^ 31 by omega), (hU (nm t) t4).1]
        refine nm_r (e' := upd a7 (nm t) (nI (cn (nm t) - 1))) (by rw [ey, nI_pred, Nat.add_sub_cancel]) ?_
        have hU' : td_U st (td_put cn (nm t) (cn (nm t) - 1)) (upd a7 (nm t) (nI (cn (nm t) - 1))) := td_putU hU (by omega) (by omega)
        refine td_t58 hC hN hU' hT htn hn (by omega) (fun g b6 hN6 => ?_) (fun v g b6 b7 hN6 hU7 => ?_)
        · rw [g] at hr
          dsimp only at hr
          cases t with
          | zero =>
            have ec : found = cc := Option.some.inj hr
            rw [ec, td_m0]
            exact td_last (H _ _)
          | succ t' =>
            rw [pk_m1]
            exact ih found t' (st + 1) _ _ _ _ hr (by omega) (by omega) hN6 (fun x hx => ⟨(hU' x hx).1, Nat.le_succ_of_le (hU' x hx).2⟩)
        · rw [g] at hr
          dsimp only at hr
          exact ih found (t + 1) (st + 1) _ _ _ _ hr (by omega) (by omega) hN6 hU7
end
section
/-! the cells listed, the fillings counted; times, parts -/
/-- the first m cells are listed -/
def td_Z (m : Nat) (ro pl : Nat → Nat) (a4 a5 a6 : Nat → Int32) : Prop := ∀ j, j < m → a4 j = nI (ro j) ∧ a5 j = nI (pl j) ∧ a6 j = nI 0
theorem td_putZ {m x y : Nat} {ro pl : Nat → Nat} {a4 a5 a6 : Nat → Int32} (hZ : td_Z m ro pl a4 a5 a6) (hx : x = ro m) (hy : y = pl m) : td_Z (m + 1) ro pl (upd a4 m (nI x)) (upd a5 m (nI y)) (upd a6 m 0) := by
  intro j hj
  by_cases e : j = m
  · rw [e, pk_us, pk_us, pk_us, hx, hy]
    exact ⟨rfl, rfl, rfl⟩
  · rw [pk_un e, pk_un e, pk_un e]
    exact hZ j (by omega)
/-- one row's cells -/
theorem td_row {post : St2 → Prop} {J7 : Int32 → Int32 → (Nat → Int32) → (Nat → Int32) → (Nat → Int32) → (Nat → Int32) → (Nat → Int32) → (Nat → Int32) → (Nat → Int32) → Prop} {a1 a2 a3 a7 : Nat → Int32} {ro pl : Nat → Nat} {i D k l : Nat}
    (hi : i < 3) (h1 : a1 i = nI k) (hk : k ≤ l) (hl : l ≤ 6) (hD : D + (l - k) ≤ 6) (hr : ∀ m, m < l - k → ro (D + m) = i ∧ pl (D + m) = l - 1 - m)
    (H : ∀ a4 a5 a6, td_Z (D + (l - k)) ro pl a4 a5 a6 → J7 (nI (i + 1)) (nI (D + (l - k))) a1 a2 a3 a4 a5 a6 a7) :
    ∀ (d m : Nat) (a4 a5 a6 : Nat → Int32), m + d = l - k → td_Z (D + m) ro pl a4 a5 a6 → wX_listCells_21 post J7 (nI i) (d + 1) (nI (k + d) - 1) (nI (D + m)) a1 a2 a3 a4 a5 a6 a7 := by
  intro d
  induction d with
  | zero =>
    intro m a4 a5 a6 hm hZ
    unfold wX_listCells_21
    rw [nI_clamp (show i < 2 ^ 31 by omega), h1]
    refine ⟨pk_in i 3 hi, br_t (td_low k (by omega)) (nm_r (nI_1 i) ?_)⟩
    have e : m = l - k := by omega
    subst e
    exact H a4 a5 a6 hZ
  | succ d ih =>
    intro m a4 a5 a6 hm hZ
    obtain ⟨r1, r2⟩ := hr m (by omega)
    unfold wX_listCells_21
    rw [nI_clamp (show i < 2 ^ 31 by omega), h1, ← Nat.add_assoc k d 1, nI_pred, nI_clamp (show D + m < 2 ^ 31 by omega)]
    refine ⟨pk_in i 3 hi, br_f (nI_nlt (by omega) (by omega)) ⟨pk_in (D + m) 6 (by omega), nm_e ⟨pk_in (D + m) 6 (by omega), nm_e ⟨pk_in (D + m) 6 (by omega), nm_e (nm_r (nI_1 _) (nm_r (td_m1 _) ?_))⟩⟩⟩⟩
    exact ih (m + 1) _ _ _ (by omega) (td_putZ (m := D + m) (x := i) (y := k + d) hZ r1.symm (by rw [r2]; omega))
theorem td_c85 {post : St2 → Prop} {c : Int32} {a1 a2 a3 a4 a5 a6 a7 : Nat → Int32} (H : ∀ b7, (∀ j, j < 4 → b7 j = nI 0) → post (c, a1, a2, a3, a4, a5, a6, b7)) : ∃ f, wX_listCells_85 post c f 0 a1 a2 a3 a4 a5 a6 a7 :=
  pk_loop (fun f i s => wX_listCells_85 post c f (nI i) a1 a2 a3 a4 a5 a6 s) (fun i s => ∀ j, j < i → s j = nI 0) 4 0 a7 (by omega) (fun j hj => absurd hj (by omega))
    (fun f s h => pk_le 4 4 (fun _ => H s h) (fun z => absurd z (by omega)))
    (fun f i s hi h hw => pk_le 4 i (fun z => absurd z (by omega)) (fun _ => ⟨pk_in i 4 hi, nm_e (nm_r (nI_1 i) (hw _ (fun j hj => by
      rw [nI_clamp (show i < 2 ^ 31 by omega)]
      by_cases e : j = i
      · rw [e, pk_us]
        rfl
      · rw [pk_un e]
        exact h j (by omega))))⟩))
theorem td_l7 {post : St2 → Prop} {a1 a2 a3 a4 a5 a6 a7 : Nat → Int32} {ro pl : Nat → Nat} {n i D k l : Nat}
    (hi : i < 3) (h1 : a1 i = nI k) (h2 : a2 i = nI l) (hk : k ≤ l) (hl : l ≤ 6) (hD : D + (l - k) ≤ 6) (hr : ∀ m, m < l - k → ro (D + m) = i ∧ pl (D + m) = l - 1 - m) (hZ : td_Z D ro pl a4 a5 a6)
    (H : ∀ b4 b5 b6, td_Z (D + (l - k)) ro pl b4 b5 b6 → wX_listCells_7 post n (nI (i + 1)) (nI (D + (l - k))) a1 a2 a3 b4 b5 b6 a7) :
    wX_listCells_7 post (n + 1) (nI i) (nI D) a1 a2 a3 a4 a5 a6 a7 := by
  have h := td_row (post := post) (J7 := wX_listCells_7 post n) hi h1 hk hl hD hr H (l - k) 0 a4 a5 a6 (by omega) hZ
  unfold wX_listCells_7
  refine pk_le 3 i (fun z => absurd z (by omega)) (fun _ => ⟨pk_in i 3 hi, nm_r (e' := nI (k + (l - k)) - 1) ?_ ⟨_, h⟩⟩)
  rw [nI_clamp (show i < 2 ^ 31 by omega), h2, show k + (l - k) = l by omega]
theorem td_l7e {post : St2 → Prop} {c : Int32} {a1 a2 a3 a4 a5 a6 a7 : Nat → Int32} {n : Nat} (H : ∀ b7, (∀ j, j < 4 → b7 j = nI 0) → post (c, a1, a2, a3, a4, a5, a6, b7)) : wX_listCells_7 post (n + 1) (nI 3) c a1 a2 a3 a4 a5 a6 a7 := by
  unfold wX_listCells_7
  exact pk_le 3 3 (fun _ => td_c85 H) (fun z => absurd z (by omega))
theorem td_list {post : St2 → Prop} {c : Int32} {a1 a2 a3 a4 a5 a6 a7 : Nat → Int32} {k0 k1 k2 l0 l1 l2 : Nat} (hK : td_K a1 k0 k1 k2) (hL : td_K a2 l0 l1 l2) (g0 : k0 ≤ l0) (g1 : k1 ≤ l1) (g2 : k2 ≤ l2) (h0 : l0 ≤ 6) (h1 : l1 ≤ 6) (h2 : l2 ≤ 6) (hn : l0 - k0 + (l1 - k1) + (l2 - k2) ≤ 6)
    (H : ∀ b4 b5 b6 b7, td_Z (l0 - k0 + (l1 - k1) + (l2 - k2)) (td_rw (l0 - k0) (l1 - k1)) (td_pl l0 l1 l2 (l0 - k0) (l1 - k1)) b4 b5 b6 → (∀ j, j < 4 → b7 j = nI 0) → post (nI (l0 - k0 + (l1 - k1) + (l2 - k2)), a1, a2, a3, b4, b5, b6, b7)) :
    wpX_listCells post (c, a1, a2, a3, a4, a5, a6, a7) := by
  obtain ⟨x0, x1, x2⟩ := hK
  obtain ⟨y0, y1, y2⟩ := hL
  have s3 : ∀ b4 b5 b6, td_Z (l0 - k0 + (l1 - k1) + (l2 - k2)) (td_rw (l0 - k0) (l1 - k1)) (td_pl l0 l1 l2 (l0 - k0) (l1 - k1)) b4 b5 b6 → wX_listCells_7 post (0 + 1) (nI (2 + 1)) (nI (l0 - k0 + (l1 - k1) + (l2 - k2))) a1 a2 a3 b4 b5 b6 a7 :=
    fun b4 b5 b6 hZ => td_l7e (fun b7 h7 => H b4 b5 b6 b7 hZ h7)
  have s2 : ∀ b4 b5 b6, td_Z (l0 - k0 + (l1 - k1)) (td_rw (l0 - k0) (l1 - k1)) (td_pl l0 l1 l2 (l0 - k0) (l1 - k1)) b4 b5 b6 → wX_listCells_7 post (0 + 1 + 1) (nI (1 + 1)) (nI (l0 - k0 + (l1 - k1))) a1 a2 a3 b4 b5 b6 a7 := by
    intro b4 b5 b6 hZ
    refine td_l7 (i := 2) (by decide) x2 y2 g2 h2 (by omega) ?_ hZ s3
    intro m hm
    unfold td_rw td_pl
    rw [if_neg (by omega), if_neg (by omega), if_neg (by omega), if_neg (by omega)]
    exact ⟨rfl, by omega⟩
  have s1 : ∀ b4 b5 b6, td_Z (l0 - k0) (td_rw (l0 - k0) (l1 - k1)) (td_pl l0 l1 l2 (l0 - k0) (l1 - k1)) b4 b5 b6 → wX_listCells_7 post (0 + 1 + 1 + 1) (nI (0 + 1)) (nI (l0 - k0)) a1 a2 a3 b4 b5 b6 a7 := by
    intro b4 b5 b6 hZ
    refine td_l7 (i := 1) (by decide) x1 y1 g1 h1 (by omega) ?_ hZ s2
    intro m hm
    unfold td_rw td_pl
    rw [if_neg (by omega), if_pos (by omega), if_neg (by omega), if_pos (by omega)]
    exact ⟨rfl, by omega⟩
  have s0 : wX_listCells_7 post (0 + 1 + 1 + 1 + 1) (nI 0) (nI 0) a1 a2 a3 a4 a5 a6 a7 := by
    refine td_l7 (i := 0) (D := 0) (ro := td_rw (l0 - k0) (l1 - k1)) (pl := td_pl l0 l1 l2 (l0 - k0) (l1 - k1)) (by decide) x0 y0 g0 h0 (by omega) ?_ (fun j hj => absurd hj (by omega)) ?_
    · intro m hm
      unfold td_rw td_pl
      rw [if_pos (by omega), if_pos (by omega)]
      exact ⟨rfl, by omega⟩
    · rw [Nat.zero_add]
      exact s1
  unfold wpX_listCells
  dsimp only
  exact ⟨_, s0⟩
theorem td_rwL (d0 d1 j : Nat) : td_rw d0 d1 j < 3 := by
  unfold td_rw
  split
  · decide
  · split
    · decide
    · decide
theorem td_plL {l0 l1 l2 d0 d1 j : Nat} (h0 : l0 ≤ 6) (h1 : l1 ≤ 6) (h2 : l2 ≤ 6) : td_pl l0 l1 l2 d0 d1 j < 7 := by
  unfold td_pl
  split
  · omega
  · split
    · omega
    · omega
theorem td_try {post : Int32 → St2 → Prop} {a1 a2 a3 a4 a5 a6 a7 : Nat → Int32} {ro pl ct : Nat → Nat} {n cc : Nat} (hC : td_C n ro pl a4 a5) (hT : td_T ct a3) (hn : n ≤ 6) (hc : td_run n ro pl ct 40 0 0 (fun _ => 0) (fun _ => 0) = some cc) (h6 : ∀ j, j < n → a6 j = nI 0) (h7 : ∀ j, j < 4 → a7 j = nI 0)
    (H : ∀ b6 b7, post (nI cc) (nI n, a1, a2, a3, a4, a5, b6, b7)) : wpX_tryNumbers post (nI n, a1, a2, a3, a4, a5, a6, a7) := by
  have hh := td_try6 hC hT hn H 40 0 0 0 (fun _ => 0) (fun _ => 0) a6 a7 hc (by omega) (by omega) (fun j hj => ⟨h6 j hj, show 0 < 4 by decide⟩) (fun x hx => ⟨h7 x hx, Nat.le_refl 0⟩)
  unfold wpX_tryNumbers
  dsimp only
  exact ⟨_, hh⟩
theorem td_room {l0 l1 l2 p q r z : Nat} (g0 : p ≤ l0) (g1 : q ≤ l1) (g2 : r ≤ l2) (e : l0 + l1 + l2 = p + q + r + z) (h : p + q + r + z ≤ 6) : l0 - p + (l1 - q) + (l2 - r) ≤ 6 ∧ l0 ≤ 6 ∧ l1 ≤ 6 ∧ l2 ≤ 6 := by
  omega
theorem td_cf {post : Int32 → St2 → Prop} {c : Int32} {a1 a2 a3 a4 a5 a6 a7 : Nat → Int32} {p q r b s cc : Nat} (hK : td_K a1 p q r) (hb : td_sh b = true) (hs : td_sh s = true) (h6 : p + q + r + td_sz b ≤ 6) (hc : td_cnt p q r b s = some cc)
    (H : ∀ c b2 b3 b4 b5 b6 b7, post (nI cc) (c, a1, b2, b3, b4, b5, b6, b7)) : wpX_countFillings post (c, a1, a2, a3, a4, a5, a6, a7) (nI b) (nI s) := by
  have hb' := of_decide_eq_true hb
  have hs' := of_decide_eq_true hs
  have hbS : td_sz b = b / 100 + b / 10 % 10 + b % 10 := rfl
  have hsS : td_sz s = s / 100 + s / 10 % 10 + s % 10 := rfl
  have hbl : b < 2 ^ 31 := by omega
  have hsl : s < 2 ^ 31 := by omega
  obtain ⟨k0, k1, k2⟩ := id hK
  unfold wpX_countFillings
  dsimp only
  rw [td_d0 hsl, td_d1 hsl, td_d2 hsl, td_d0 hbl, td_d1 hbl, td_d2 hbl]
  refine ⟨by decide, fun u1 e1 => ⟨by decide, by decide, fun u2 e2 => ⟨by decide, fun u3 e3 => ⟨by decide, fun w1 f1 => ⟨by decide, by decide, fun w2 f2 => ⟨by decide, fun w3 f3 => ?_⟩⟩⟩⟩⟩⟩
  have hL : td_K u3 (s / 100) (s / 10 % 10) (s % 10) := by
    rw [e3, e2, e1]
    exact ⟨rfl, rfl, rfl⟩
  have hT : td_T (td_ct b) w3 := by
    rw [f3, f2, f1]
    intro j hj
    have hj' : j = 0 ∨ j = 1 ∨ j = 2 := by omega
    rcases hj' with rfl | rfl | rfl
    · exact ⟨rfl, show b / 100 < 10 by omega⟩
    · exact ⟨rfl, show b / 10 % 10 < 10 by omega⟩
    · exact ⟨rfl, show b % 10 < 10 by omega⟩
  obtain ⟨l0, l1, l2⟩ := id hL
  have G0 : (s / 100 < p ∨ s / 10 % 10 < q ∨ s % 10 < r) → wX_countFillings_115 post (nI b) (nI s) c a1 u3 w3 a4 a5 a6 a7 := by
    intro g
    unfold td_cnt at hc
    rw [if_pos g] at hc
    have e : 0 = cc := Option.some.inj hc
    subst e
    unfold wX_countFillings_115 wX_countFillings_116
    exact br_t rfl (H _ _ _ _ _ _ _)
  rw [l0, l1, l2, k0, k1, k2]
  refine pk_lt (s / 100) p (fun g => G0 (Or.inl g)) (fun g0 => pk_lt (s / 10 % 10) q (fun g => G0 (Or.inr (Or.inl g))) (fun g1 => pk_lt (s % 10) r (fun g => G0 (Or.inr (Or.inr g))) (fun g2 => ?_)))
  unfold td_cnt at hc
  rw [if_neg (by omega)] at hc
  unfold wX_countFillings_116
  refine br_f (by decide) (td_size hsl (td_kept hK (td_size hbl ?_)))
  rw [nI_add]
  refine pk_eq (td_sz s) (p + q + r + td_sz b) (fun e => ?_) (fun e => ?_)
  · rw [if_pos e] at hc
    obtain ⟨m6, m0, m1, m2⟩ := td_room g0 g1 g2 e h6
    exact td_list hK hL g0 g1 g2 m0 m1 m2 m6 (fun b4 b5 b6 b7 hZ h7 => td_try (ro := td_rw (s / 100 - p) (s / 10 % 10 - q)) (pl := td_pl (s / 100) (s / 10 % 10) (s % 10) (s / 100 - p) (s / 10 % 10 - q)) (ct := td_ct b) (cc := cc) (fun j hj => ⟨(hZ j hj).1, (hZ j hj).2.1, td_rwL _ _ _, td_plL m0 m1 m2⟩) hT m6 hc (fun j hj => (hZ j hj).2.2) h7 (fun b6 b7 => H _ _ _ _ _ _ _))
  · rw [if_neg e] at hc
    have e : 0 = cc := Option.some.inj hc
    subst e
    exact H _ _ _ _ _ _ _
theorem td_times {post : Int32 → St2 → Prop} {c : Int32} {a1 a2 a3 a4 a5 a6 a7 : Nat → Int32} {p q r b s cc : Nat} (hK : td_K a1 p q r) (hb : td_sh b = true) (hs : td_sh s = true) (h6 : p + q + r + td_sz b ≤ 6) (hc : td_cnt p q r b s = some cc)
    (H : ∀ c b2 b3 b4 b5 b6 b7, post (nI cc) (c, a1, b2, b3, b4, b5, b6, b7)) : wpX_times post (c, a1, a2, a3, a4, a5, a6, a7) (nI b) (nI s) := by
  have hb' := (of_decide_eq_true hb).1
  unfold wpX_times
  dsimp only
  refine td_shapeY hb (br_f (by decide) (td_shapeY hs (br_f (by decide) (td_kept hK (td_size (by omega) ?_)))))
  rw [nI_add]
  exact pk_le (p + q + r + td_sz b) 6 (fun _ => td_cf hK hb hs h6 hc (fun c b2 b3 b4 b5 b6 b7 => H c b2 b3 b4 b5 b6 b7)) (fun z => absurd z (by omega))
/-- asked of any int -/
theorem td_timesA {post : Int32 → St2 → Prop} {c x : Int32} {a1 a2 a3 a4 a5 a6 a7 : Nat → Int32} {p q r b : Nat} (hK : td_K a1 p q r) (hb : td_sh b = true) (h6 : p + q + r + td_sz b ≤ 6) (hc : ∀ s, td_sh s = true → ∃ cc, cc ≤ 1 ∧ td_cnt p q r b s = some cc)
    (H : ∀ y c b2 b3 b4 b5 b6 b7, (y = -1 ∨ y = nI 0 ∨ y = nI 1) → post y (c, a1, b2, b3, b4, b5, b6, b7)) : wpX_times post (c, a1, a2, a3, a4, a5, a6, a7) (nI b) x := by
  have hb' := (of_decide_eq_true hb).1
  unfold wpX_times
  dsimp only
  refine td_shapeY hb (br_f (by decide) (td_shapeA (fun s es hs => br_f (by decide) (td_kept hK (td_size (by omega) ?_))) (br_t rfl (H _ _ _ _ _ _ _ _ (Or.inl rfl)))))
  rw [nI_add, es]
  obtain ⟨cc, h1, h2⟩ := hc s hs
  refine pk_le (p + q + r + td_sz b) 6 (fun _ => td_cf hK hb hs h6 h2 (fun c b2 b3 b4 b5 b6 b7 => H _ c b2 b3 b4 b5 b6 b7 (Or.inr ?_))) (fun z => absurd z (by omega))
  have h01 : cc = 0 ∨ cc = 1 := by omega
  rcases h01 with rfl | rfl
  · exact Or.inl rfl
  · exact Or.inr rfl
theorem td_timesN {post : Int32 → St2 → Prop} {c x : Int32} {a1 a2 a3 a4 a5 a6 a7 : Nat → Int32} {b : Nat} (hb : b < 2 ^ 31) (h : td_sh b = false) (H : post (-1) (c, a1, a2, a3, a4, a5, a6, a7)) : wpX_times post (c, a1, a2, a3, a4, a5, a6, a7) (nI b) x := by
  unfold wpX_times
  dsimp only
  exact td_shapeN hb h (br_t rfl H)
theorem td_partsN {post : Int32 → St2 → Prop} {c : Int32} {a1 a2 a3 a4 a5 a6 a7 : Nat → Int32} {b : Nat} (hb : b < 2 ^ 31) (h : td_sh b = false) (H : post (-1) (c, a1, a2, a3, a4, a5, a6, a7)) : wpX_parts post (c, a1, a2, a3, a4, a5, a6, a7) (nI b) := by
  unfold wpX_parts
  dsimp only
  exact td_shapeN hb h (br_t rfl H)
theorem td_parts27 {post : Int32 → St2 → Prop} {a1 : Nat → Int32} {p q r b : Nat} {g : Nat → Nat} (hK : td_K a1 p q r) (hb : td_sh b = true) (h6 : p + q + r + td_sz b ≤ 6) (hc : ∀ s, td_sh s = true → td_cnt p q r b s = some (g s))
    (H : ∀ c b2 b3 b4 b5 b6 b7, post (nI (td_ps g 601)) (c, a1, b2, b3, b4, b5, b6, b7)) :
    ∀ (d s : Nat) (c : Int32) (a2 a3 a4 a5 a6 a7 : Nat → Int32), s + d = 601 → wX_parts_27 post (nI b) (d + 1) (nI (td_ps g s)) (nI s) c a1 a2 a3 a4 a5 a6 a7 := by
  intro d
  induction d with
  | zero =>
    intro s c a2 a3 a4 a5 a6 a7 hs
    have e : s = 601 := by omega
    subst e
    unfold wX_parts_27
    exact br_t (nI_lt (a := 600) (by omega) (by omega)) (H _ _ _ _ _ _ _)
  | succ d ih =>
    intro s c a2 a3 a4 a5 a6 a7 hs
    unfold wX_parts_27
    refine pk_lt 600 s (fun z => absurd z (by omega)) (fun _ => td_shape (by omega) (fun hy => ?_) (fun hn => ?_))
    · refine br_f (by decide) (td_cf hK hb hy h6 (hc s hy) (fun c b2 b3 b4 b5 b6 b7 => ?_))
      dsimp only
      refine nm_r (e' := nI (td_ps g (s + 1))) ?_ (nm_r (nI_1 s) (ih (s + 1) c b2 b3 b4 b5 b6 b7 (by omega)))
      rw [nI_add]
      show _ = nI (td_ps g s + _)
      rw [if_pos hy]
    · refine br_t rfl (nm_r (nI_1 s) ?_)
      have e : td_ps g (s + 1) = td_ps g s := by
        show td_ps g s + _ = _
        rw [hn]
        rfl
      rw [← e]
      exact ih (s + 1) c a2 a3 a4 a5 a6 a7 (by omega)
theorem td_parts {post : Int32 → St2 → Prop} {c : Int32} {a1 a2 a3 a4 a5 a6 a7 : Nat → Int32} {p q r b : Nat} {g : Nat → Nat} (hK : td_K a1 p q r) (hb : td_sh b = true) (h6 : p + q + r + td_sz b ≤ 6) (hc : ∀ s, td_sh s = true → td_cnt p q r b s = some (g s))
    (H : ∀ c b2 b3 b4 b5 b6 b7, post (nI (td_ps g 601)) (c, a1, b2, b3, b4, b5, b6, b7)) : wpX_parts post (c, a1, a2, a3, a4, a5, a6, a7) (nI b) := by
  have hb' := (of_decide_eq_true hb).1
  unfold wpX_parts
  dsimp only
  refine td_shapeY hb (br_f (by decide) (td_kept hK (td_size (by omega) ?_)))
  rw [nI_add]
  have hh := td_parts27 hK hb h6 hc H 601 0 c a2 a3 a4 a5 a6 a7 (by omega)
  exact pk_le (p + q + r + td_sz b) 6 (fun _ => ⟨_, hh⟩) (fun z => absurd z (by omega))
end
section
/-! the law's loops -/
abbrev td_J : Type := Int32 → Int32 → Int32 → Int32 → (Nat → Int32) → (Nat → Int32) → (Nat → Int32) → (Nat → Int32) → (Nat → Int32) → (Nat → Int32) → (Nat → Int32) → Prop
/-- a truth as a number -/
def td_bn (b : Bool) : Nat := if b = true then 1 else 0
theorem td_bnL (b : Bool) : td_bn b ≤ 1 := by
  unfold td_bn
  split
  · decide
  · decide
theorem td_rowF : ∀ k, k < 7 → td_sh (100 * k) = true ∧ td_sz (100 * k) = k := by decide
theorem td_colF : ∀ k, k < 4 → td_sh (td_col k) = true ∧ td_sz (td_col k) = k := by decide
theorem td_grD {F : Nat → Nat → Nat → Bool} {n i j z : Nat} (hj : j < 10) (hz : z < 10) (hn : i + j + z = n) : td_gr F n (100 * i + 10 * j + z) = td_bn (F i j z) := by
  unfold td_gr td_bn
  obtain ⟨h1, h2, h3⟩ := td_digits (p := i) hj hz
  rw [td_szD hj hz, h1, h2, h3]
  by_cases h : F i j z = true
  · rw [if_pos ⟨hn, h⟩, if_pos h]
  · rw [if_neg (fun t => h t.2), if_neg h]
theorem td_grL (F : Nat → Nat → Nat → Bool) (n s : Nat) : td_gr F n s ≤ 1 := by
  unfold td_gr
  split
  · decide
  · decide
theorem td_tmD {F : Nat → Nat → Nat → Bool} {n i j : Nat} (h : j ≤ i ∧ i + j ≤ n ∧ n - i - j ≤ j) : td_tm F n i j = td_bn (F i j (n - i - j)) := by
  unfold td_tm td_bn
  by_cases g : F i j (n - i - j) = true
  · rw [if_pos ⟨h, g⟩, if_pos g]
  · rw [if_neg (fun t => g t.2), if_neg g]
theorem td_tm0 {F : Nat → Nat → Nat → Bool} {n i j : Nat} (h : ¬ (j ≤ i ∧ i + j ≤ n ∧ n - i - j ≤ j)) : td_tm F n i j = 0 := by
  unfold td_tm
  rw [if_neg (fun t => h t.1)]
theorem td_neg {n i j : Nat} (h : n < i + j) (hb : i + j < 2 ^ 30) : nI n - nI i - nI j < 0 := by
  have e : nI n - nI i - nI j = nI n - nI (i + j) := by
    rw [← nI_add]
    grind
  rw [e]
  exact pk_sneg hb h
section
variable {post : Int32 → St0 → Prop} {mc ms kc ks : Nat} {J165 J175 : td_J} {x4 c : Int32} {a1 a2 a3 a4 a5 a6 a7 : Nat → Int32} {p q r k i j z s S P b : Nat}
theorem td_402 {x5 x6 x7 x8 x10 x12 x13 x15 : Int32} (hb : b ≤ 1) (HJ : J175 x12 (nI (P + b)) (nI (j + 1)) c a1 a2 a3 a4 a5 a6 a7) :
    wL_lawOf_402 post mc ms J165 J175 x4 x5 x6 x7 x8 x10 x12 x13 (nI P) x15 (nI j) (nI b) kc ks c a1 a2 a3 a4 a5 a6 a7 := by
  unfold wL_lawOf_402
  refine pk_eq b 0 (fun e => nm_r ?_ (nm_r (nI_1 j) HJ)) (fun e => nm_r ?_ (nm_r (nI_1 j) HJ))
  · subst e
    exact nI_add P 0
  · have e1 : b = 1 := by omega
    subst e1
    exact nI_1 P
theorem td_397 {x5 x6 x7 x8 x10 x12 x13 x14 x15 x16 x20 z0 z1 : Int32} (hz : z1 = z0) (H : wL_lawOf_402 post mc ms J165 J175 x4 x5 x6 x7 x8 x10 x12 x13 x14 x15 x16 x20 kc ks c a1 a2 a3 a4 a5 a6 a7) :
    wL_lawOf_397 post mc ms J165 J175 x4 x5 x6 x7 x8 x10 x12 x13 x14 x15 x16 x20 z0 z1 kc ks c a1 a2 a3 a4 a5 a6 a7 := by
  unfold wL_lawOf_397
  exact br_t hz H
theorem td_370 {x5 x6 x7 x8 x12 x15 : Int32} (hK : td_K a1 p q r) (hs : td_sh s = true) (hb : b ≤ 1) (hk : p + q + r + k ≤ 6) (hc : k ≤ 3 → td_cnt p q r (td_col k) s = some b)
    (HJ : ∀ c b2 b3 b4 b5 b6 b7, J175 x12 (nI (P + b)) (nI (j + 1)) c a1 b2 b3 b4 b5 b6 b7) :
    wL_lawOf_370 post mc ms J165 J175 x4 x5 x6 x7 x8 (nI k) x12 (nI (td_col k)) (nI P) x15 (nI j) (nI s) (nI b) kc ks c a1 a2 a3 a4 a5 a6 a7 := by
  unfold wL_lawOf_370
  refine pk_lt 3 k (fun _ => td_402 hb (HJ _ _ _ _ _ _ _)) (fun h3 => ?_)
  obtain ⟨c1, c2⟩ := td_colF k (by omega)
  refine td_times hK c1 hs (by rw [c2]; exact hk) (hc h3) (fun c b2 b3 b4 b5 b6 b7 => ?_)
  dsimp only
  refine pk_eq b 0 (fun e => td_397 ?_ (td_402 hb (HJ _ _ _ _ _ _ _))) (fun e => td_397 ?_ (td_402 hb (HJ _ _ _ _ _ _ _)))
  · rw [e]
    rfl
  · rw [show b = 1 by omega]
    rfl
theorem td_314 {x8 : Int32} {u : Nat} (hK : td_K a1 p q r) (hp : p < 4) (hq : q < 4) (hr : r < 4) (hi : i < 7) (hj : j < 7) (hz : z < 7) (hs : td_sh s = true) (hk : p + q + r + k ≤ 6) (hc : k ≤ 3 → td_cnt p q r (td_col k) s = some (td_bn (td_side p q r i j z)))
    (HJ : ∀ c b2 b3 b4 b5 b6 b7, J175 (nI (S + u)) (nI (P + td_bn (td_side p q r i j z))) (nI (j + 1)) c a1 b2 b3 b4 b5 b6 b7) :
    wL_lawOf_314 post mc ms J165 J175 x4 (nI p) (nI q) (nI r) x8 (nI k) (nI (td_col k)) (nI P) (nI i) (nI j) (nI z) (nI s) (nI u) (nI S) kc ks c a1 a2 a3 a4 a5 a6 a7 := by
  have N : td_side p q r i j z = false → wL_lawOf_369 post mc ms J165 J175 x4 (nI p) (nI q) (nI r) x8 (nI k) (nI (S + u)) (nI (td_col k)) (nI P) (nI i) (nI j) (nI s) kc ks c a1 a2 a3 a4 a5 a6 a7 := by
    intro e
    rw [e] at hc HJ
    unfold wL_lawOf_369
    exact td_370 (b := td_bn false) hK hs (td_bnL _) hk hc HJ
  have Y : td_side p q r i j z = true → wL_lawOf_370 post mc ms J165 J175 x4 (nI p) (nI q) (nI r) x8 (nI k) (nI (S + u)) (nI (td_col k)) (nI P) (nI i) (nI j) (nI s) 1 kc ks c a1 a2 a3 a4 a5 a6 a7 := by
    intro e
    rw [e] at hc HJ
    exact td_370 (b := td_bn true) hK hs (td_bnL _) hk hc HJ
  unfold wL_lawOf_314
  refine nm_r (nI_add S u) ?_
  refine pk_lt i p (fun h => N (decide_eq_false (fun t => by omega))) (fun h1 => ?_)
  refine pk_lt (p + 1) i (fun h => N (decide_eq_false (fun t => by omega))) (fun h2 => ?_) (nI_1 p)
  refine pk_lt j q (fun h => N (decide_eq_false (fun t => by omega))) (fun h3 => ?_)
  refine pk_lt (q + 1) j (fun h => N (decide_eq_false (fun t => by omega))) (fun h4 => ?_) (nI_1 q)
  refine pk_lt z r (fun h => N (decide_eq_false (fun t => by omega))) (fun h5 => ?_)
  exact pk_lt (r + 1) z (fun h => N (decide_eq_false (fun t => by omega))) (fun h6 => Y (decide_eq_true ⟨h1, h2, h3, h4, h5, h6⟩)) (nI_1 r)
theorem td_297 {x5 x6 x7 x8 x10 x13 x14 x15 x16 x17 x18 z0 : Int32} (hb : b ≤ 1) (hz : nI b = z0) (H : wL_lawOf_314 post mc ms J165 J175 x4 x5 x6 x7 x8 x10 x13 x14 x15 x16 x17 x18 (nI b) (nI S) kc ks c a1 a2 a3 a4 a5 a6 a7) :
    wL_lawOf_297 post mc ms J165 J175 x4 x5 x6 x7 x8 x10 (nI S) x13 x14 x15 x16 x17 x18 (nI b) z0 (nI b) kc ks c a1 a2 a3 a4 a5 a6 a7 := by
  unfold wL_lawOf_297
  refine br_t hz (pk_eq b 0 (fun e => ?_) (fun e => ?_))
  · rw [e] at H
    exact H
  · rw [show b = 1 by omega] at H
    exact H
theorem td_273 {x8 : Int32} (hK : td_K a1 p q r) (hp : p < 4) (hq : q < 4) (hr : r < 4) (hi : i < 7) (hj : j < 7) (hz : z < 7) (hs : td_sh s = true) (hk : p + q + r + k ≤ 6) (hb : b ≤ 1) (hr1 : td_cnt p q r (100 * k) s = some b) (hc : k ≤ 3 → td_cnt p q r (td_col k) s = some (td_bn (td_side p q r i j z)))
    (HJ : ∀ c b2 b3 b4 b5 b6 b7, J175 (nI (S + b)) (nI (P + td_bn (td_side p q r i j z))) (nI (j + 1)) c a1 b2 b3 b4 b5 b6 b7) :
    wL_lawOf_273 post mc ms J165 J175 x4 (nI p) (nI q) (nI r) x8 (nI k) (nI S) (nI (td_col k)) (nI P) (nI i) (nI j) (nI z) (nI s) (nI b) kc ks c a1 a2 a3 a4 a5 a6 a7 := by
  obtain ⟨c1, c2⟩ := td_rowF k (by omega)
  unfold wL_lawOf_273
  rw [show (100 : Int32) * nI k = nI (100 * k) from pk_mul 100 k]
  refine td_times hK c1 hs (by rw [c2]; exact hk) hr1 (fun c b2 b3 b4 b5 b6 b7 => ?_)
  dsimp only
  have G := td_314 (post := post) (mc := mc) (ms := ms) (kc := kc) (ks := ks) (J165 := J165) (x4 := x4) (x8 := x8) (c := c) (a2 := b2) (a3 := b3) (a4 := b4) (a5 := b5) (a6 := b6) (a7 := b7) hK hp hq hr hi hj hz hs hk hc HJ
  refine pk_eq b 0 (fun e => td_297 hb ?_ G) (fun e => td_297 hb ?_ G)
  · rw [e]
    rfl
  · rw [show b = 1 by omega]
    rfl
/-- one turn of the inner loop and those behind it -/
theorem td_175 (hK : td_K a1 p q r) (hp : p < 4) (hq : q ≤ p) (hr : r ≤ q) (hk : p + q + r + k ≤ 6) (hi : i < 7)
    (HJ : ∀ c b2 b3 b4 b5 b6 b7, J165 (nI (S + td_s2 (td_tm (td_strip p q r) (p + q + r + k)) i 7)) (nI (P + td_s2 (td_tm (td_side p q r) (p + q + r + k)) i 7)) (nI (i + 1)) c a1 b2 b3 b4 b5 b6 b7) :
    ∀ (d j : Nat) (c : Int32) (a2 a3 a4 a5 a6 a7 : Nat → Int32), j + d = 7 → wL_lawOf_175 post mc ms J165 x4 (nI p) (nI q) (nI r) (nI (100 * p + 10 * q + r)) (nI k) (nI (td_col k)) (nI i) kc ks (d + 1)
      (nI (S + td_s2 (td_tm (td_strip p q r) (p + q + r + k)) i j)) (nI (P + td_s2 (td_tm (td_side p q r) (p + q + r + k)) i j)) (nI j) c a1 a2 a3 a4 a5 a6 a7 := by
  obtain ⟨f1, f2, _, _⟩ := td_fact hp hq hr hk
  intro d
  induction d with
  | zero =>
    intro j c a2 a3 a4 a5 a6 a7 hd
    have e : j = 7 := by omega
    subst e
    unfold wL_lawOf_175
    exact pk_le 7 7 (fun _ => nm_r (nI_1 i) (HJ _ _ _ _ _ _ _)) (fun z => absurd z (by omega))
  | succ d ih =>
    intro j c a2 a3 a4 a5 a6 a7 hd
    have hj : j < 7 := by omega
    have SK : ¬ (j ≤ i ∧ i + j ≤ p + q + r + k ∧ p + q + r + k - i - j ≤ j) → wL_lawOf_175 post mc ms J165 x4 (nI p) (nI q) (nI r) (nI (100 * p + 10 * q + r)) (nI k) (nI (td_col k)) (nI i) kc ks (d + 1)
      (nI (S + td_s2 (td_tm (td_strip p q r) (p + q + r + k)) i j)) (nI (P + td_s2 (td_tm (td_side p q r) (p + q + r + k)) i j)) (nI (j + 1)) c a1 a2 a3 a4 a5 a6 a7 := by
      intro h
      have e1 : td_s2 (td_tm (td_strip p q r) (p + q + r + k)) i (j + 1) = td_s2 (td_tm (td_strip p q r) (p + q + r + k)) i j := by
        show td_s2 (td_tm (td_strip p q r) (p + q + r + k)) i j + td_tm (td_strip p q r) (p + q + r + k) i j = _
        rw [td_tm0 h]
        rfl
      have e2 : td_s2 (td_tm (td_side p q r) (p + q + r + k)) i (j + 1) = td_s2 (td_tm (td_side p q r) (p + q + r + k)) i j := by
        show td_s2 (td_tm (td_side p q r) (p + q + r + k)) i j + td_tm (td_side p q r) (p + q + r + k) i j = _
        rw [td_tm0 h]
        rfl
      rw [← e1, ← e2]
      exact ih (j + 1) c a2 a3 a4 a5 a6 a7 (by omega)
    unfold wL_lawOf_175
    refine pk_le 7 j (fun z => absurd z (by omega)) (fun _ => td_sizeL (by omega) ?_)
    rw [td_szD (by omega) (by omega), nI_add]
    intro x17 e17
    refine pk_lt i j (fun h => nm_r (nI_1 j) (SK (fun t => by omega))) (fun h1 => ?_)
    by_cases hn : i + j ≤ p + q + r + k
    rotate_left
    · have hneg : x17 < 0 := by
        rw [e17]
        exact td_neg (by omega) (by omega)
      exact br_c (fun _ => nm_r (nI_1 j) (SK (fun t => by omega))) (fun _ => br_t hneg (nm_r (nI_1 j) (SK (fun t => by omega))))
    rw [pk_sub (by omega), pk_sub (by omega)] at e17
    subst e17
    refine pk_lt j (p + q + r + k - i - j) (fun h => nm_r (nI_1 j) (SK (fun t => by omega))) (fun h2 => br_f (nI_pos (by omega)) (nm_r (e' := nI (100 * i + 10 * j + (p + q + r + k - i - j))) ?_ ?_))
    · rw [show (100 : Int32) * nI i = nI (100 * i) from pk_mul 100 i, show (10 : Int32) * nI j = nI (10 * j) from pk_mul 10 j, nI_add, nI_add]
    have hz : i + j + (p + q + r + k - i - j) = p + q + r + k := by omega
    have t1 : td_s2 (td_tm (td_strip p q r) (p + q + r + k)) i (j + 1) = td_s2 (td_tm (td_strip p q r) (p + q + r + k)) i j + td_bn (td_strip p q r i j (p + q + r + k - i - j)) := by
      rw [← td_tmD ⟨h1, hn, h2⟩]
      rfl
    have t2 : td_s2 (td_tm (td_side p q r) (p + q + r + k)) i (j + 1) = td_s2 (td_tm (td_side p q r) (p + q + r + k)) i j + td_bn (td_side p q r i j (p + q + r + k - i - j)) := by
      rw [← td_tmD ⟨h1, hn, h2⟩]
      rfl
    have hsh : td_sh (100 * i + 10 * j + (p + q + r + k - i - j)) = true := td_shD h1 h2 (by omega)
    have g1 : td_cnt p q r (100 * k) (100 * i + 10 * j + (p + q + r + k - i - j)) = some (td_bn (td_strip p q r i j (p + q + r + k - i - j))) := by
      rw [f1 _ hsh, td_grD (by omega) (by omega) hz]
    have g2 : k ≤ 3 → td_cnt p q r (td_col k) (100 * i + 10 * j + (p + q + r + k - i - j)) = some (td_bn (td_side p q r i j (p + q + r + k - i - j))) := by
      intro h3
      rw [f2 h3 _ hsh, td_grD (by omega) (by omega) hz]
    have NX : ∀ c b2 b3 b4 b5 b6 b7, wL_lawOf_175 post mc ms J165 x4 (nI p) (nI q) (nI r) (nI (100 * p + 10 * q + r)) (nI k) (nI (td_col k)) (nI i) kc ks (d + 1)
        (nI (S + td_s2 (td_tm (td_strip p q r) (p + q + r + k)) i j + td_bn (td_strip p q r i j (p + q + r + k - i - j)))) (nI (P + td_s2 (td_tm (td_side p q r) (p + q + r + k)) i j + td_bn (td_side p q r i j (p + q + r + k - i - j)))) (nI (j + 1)) c a1 b2 b3 b4 b5 b6 b7 := by
      intro c b2 b3 b4 b5 b6 b7
      rw [Nat.add_assoc S, Nat.add_assoc P, ← t1, ← t2]
      exact ih (j + 1) c b2 b3 b4 b5 b6 b7 (by omega)
    have G := td_273 (post := post) (mc := mc) (ms := ms) (kc := kc) (ks := ks) (J165 := J165) (x4 := x4) (x8 := nI (100 * p + 10 * q + r)) (c := c) (a2 := a2) (a3 := a3) (a4 := a4) (a5 := a5) (a6 := a6) (a7 := a7) hK hp (by omega) (by omega) hi hj (by omega) hsh hk (td_bnL _) g1 g2 NX
    have N : td_strip p q r i j (p + q + r + k - i - j) = false → wL_lawOf_272 post mc ms J165 (wL_lawOf_175 post mc ms J165 x4 (nI p) (nI q) (nI r) (nI (100 * p + 10 * q + r)) (nI k) (nI (td_col k)) (nI i) kc ks (d + 1)) x4 (nI p) (nI q) (nI r) (nI (100 * p + 10 * q + r)) (nI k)
        (nI (S + td_s2 (td_tm (td_strip p q r) (p + q + r + k)) i j)) (nI (td_col k)) (nI (P + td_s2 (td_tm (td_side p q r) (p + q + r + k)) i j)) (nI i) (nI j) (nI (p + q + r + k - i - j)) (nI (100 * i + 10 * j + (p + q + r + k - i - j))) kc ks c a1 a2 a3 a4 a5 a6 a7 := by
      intro e
      rw [e] at G
      unfold wL_lawOf_272
      exact G
    refine pk_lt i p (fun h => N (decide_eq_false (fun t => by omega))) (fun k1 => ?_)
    refine pk_lt p j (fun h => N (decide_eq_false (fun t => by omega))) (fun k2 => ?_)
    refine pk_lt j q (fun h => N (decide_eq_false (fun t => by omega))) (fun k3 => ?_)
    refine pk_lt q (p + q + r + k - i - j) (fun h => N (decide_eq_false (fun t => by omega))) (fun k4 => ?_)
    refine pk_lt (p + q + r + k - i - j) r (fun h => N (decide_eq_false (fun t => by omega))) (fun k5 => ?_)
    have e : td_strip p q r i j (p + q + r + k - i - j) = true := decide_eq_true ⟨k1, k2, k3, k4, k5⟩
    rw [e] at G
    exact G
end
end
section
/-! behind the loops, ahead of them, and what is owed -/
section
variable {post : Int32 → St0 → Prop} {mc ms kc ks : Nat} {x4 c : Int32} {a1 a2 a3 a4 a5 a6 a7 : Nat → Int32} {p q r k : Nat}
theorem td_507 (hK : td_K a1 p q r) (hp : p < 4) (hq : q ≤ p) (hr : r ≤ q) (hk : p + q + r + k ≤ 6) (H : post 1 ()) :
    wL_lawOf_507 post mc ms x4 (nI p) (nI q) (nI r) (nI (100 * p + 10 * q + r)) (nI k) kc ks c a1 a2 a3 a4 a5 a6 a7 := by
  obtain ⟨f1, _, _, _⟩ := td_fact hp hq hr hk
  obtain ⟨c1, c2⟩ := td_rowF k (by omega)
  unfold wL_lawOf_507
  rw [show (100 : Int32) * nI k = nI (100 * k) from pk_mul 100 k]
  refine td_timesA hK c1 (by rw [c2]; exact hk) (fun s hs => ⟨_, td_grL _ _ _, f1 s hs⟩) (fun y c b2 b3 b4 b5 b6 b7 hy => ?_)
  dsimp only
  have y1 : ¬ y < -1 := by
    rcases hy with rfl | rfl | rfl
    · decide
    · decide
    · decide
  have y2 : ¬ 1 < y := by
    rcases hy with rfl | rfl | rfl
    · decide
    · decide
    · decide
  refine br_f y1 (br_f y2 (td_keep hq hr (by omega) (fun b1 hK1 => ?_)))
  dsimp only
  refine br_t (by rw [nI_add, nI_add]) (td_partsN (b := 700) (by decide) (by decide) ?_)
  dsimp only
  refine br_t rfl (td_timesN (b := 12) (by decide) (by decide) ?_)
  exact br_t rfl H
theorem td_165e {n : Nat} (hK : td_K a1 p q r) (hp : p < 4) (hq : q ≤ p) (hr : r ≤ q) (hk : p + q + r + k ≤ 6) (H : post 1 ()) :
    wL_lawOf_165 post mc ms x4 (nI p) (nI q) (nI r) (nI (100 * p + 10 * q + r)) (nI k) (nI (td_col k)) kc ks (n + 1)
      (nI (td_s1 (td_tm (td_strip p q r) (p + q + r + k)) 7)) (nI (td_s1 (td_tm (td_side p q r) (p + q + r + k)) 7)) (nI 7) c a1 a2 a3 a4 a5 a6 a7 := by
  obtain ⟨f1, f2, f3, f4⟩ := td_fact hp hq hr hk
  obtain ⟨c1, c2⟩ := td_rowF k (by omega)
  unfold wL_lawOf_165
  rw [show (100 : Int32) * nI k = nI (100 * k) from pk_mul 100 k]
  refine pk_le 7 7 (fun _ => td_parts hK c1 (by rw [c2]; exact hk) f1 (fun c b2 b3 b4 b5 b6 b7 => ?_)) (fun z => absurd z (by omega))
  dsimp only
  refine br_t (by rw [f3]) (td_great hK c1 (by rw [c2]; exact hk) (br_t (by rw [nI_add]) ?_))
  refine pk_lt 3 k (fun _ => td_507 hK hp hq hr hk H) (fun h3 => ?_)
  obtain ⟨g1, g2⟩ := td_colF k (by omega)
  refine td_parts hK g1 (by rw [g2]; exact hk) (f2 h3) (fun c b2 b3 b4 b5 b6 b7 => ?_)
  dsimp only
  refine br_t (by rw [f4]) (br_c (fun _ => td_507 hK hp hq hr hk H) (fun _ => ?_))
  exact td_great hK g1 (by rw [g2]; exact hk) (br_t (by rw [nI_add]) (td_507 hK hp hq hr hk H))
theorem td_165 (hK : td_K a1 p q r) (hp : p < 4) (hq : q ≤ p) (hr : r ≤ q) (hk : p + q + r + k ≤ 6) (H : post 1 ()) :
    ∀ (d i : Nat) (c : Int32) (a2 a3 a4 a5 a6 a7 : Nat → Int32), i + d = 7 → wL_lawOf_165 post mc ms x4 (nI p) (nI q) (nI r) (nI (100 * p + 10 * q + r)) (nI k) (nI (td_col k)) kc ks (d + 1)
      (nI (td_s1 (td_tm (td_strip p q r) (p + q + r + k)) i)) (nI (td_s1 (td_tm (td_side p q r) (p + q + r + k)) i)) (nI i) c a1 a2 a3 a4 a5 a6 a7 := by
  intro d
  induction d with
  | zero =>
    intro i c a2 a3 a4 a5 a6 a7 hd
    have e : i = 7 := by omega
    subst e
    exact td_165e hK hp hq hr hk H
  | succ d ih =>
    intro i c a2 a3 a4 a5 a6 a7 hd
    have hh := td_175 (post := post) (mc := mc) (ms := ms) (kc := kc) (ks := ks) (x4 := x4) (J165 := wL_lawOf_165 post mc ms x4 (nI p) (nI q) (nI r) (nI (100 * p + 10 * q + r)) (nI k) (nI (td_col k)) kc ks (d + 1)) (i := i)
      (S := td_s1 (td_tm (td_strip p q r) (p + q + r + k)) i) (P := td_s1 (td_tm (td_side p q r) (p + q + r + k)) i) hK hp hq hr hk (by omega) (fun c b2 b3 b4 b5 b6 b7 => ih (i + 1) c b2 b3 b4 b5 b6 b7 (by omega)) 7 0 c a2 a3 a4 a5 a6 a7 (by omega)
    unfold wL_lawOf_165
    exact pk_le 7 i (fun z => absurd z (by omega)) (fun _ => ⟨_, hh⟩)
theorem td_52 {x3 : Int32} (hm : 8 ≤ mc) (hs : 39 ≤ ms) (hp : p < 4) (hq : q ≤ p) (hr : r ≤ q) (h6 : p + q + r ≤ 6) (H : post 1 ()) : wL_lawOf_52 post mc ms x3 x4 (nI p) (nI q) (nI r) 0 0 := by
  obtain ⟨m, hm8, em⟩ := pk_andE x3 (m := 255) 8 (by decide)
  have hk : p + q + r + m % (6 - (p + q + r) + 1) ≤ 6 := by
    have := Nat.mod_lt m (show 0 < 6 - (p + q + r) + 1 by omega)
    omega
  unfold wL_lawOf_52
  refine nm_r (e' := nI (100 * p + 10 * q + r)) ?_ (td_sizeL (by omega) ?_)
  · rw [show (100 : Int32) * nI p = nI (100 * p) from pk_mul 100 p, show (10 : Int32) * nI q = nI (10 * q) from pk_mul 10 q, nI_add, nI_add]
  rw [td_szD (by omega) (by omega)]
  refine nm_r (e' := nI (6 - (p + q + r))) (pk_sub (a := 6) h6) ?_
  rw [nI_1, em]
  refine ⟨nI_ne0 (by omega) (by omega), nm_r (pk_rem (by omega) (by omega) (by omega)) ⟨by omega, by omega, 7, 31, by omega, by omega, ?_⟩⟩
  unfold wpX_init
  refine ⟨by decide, by decide, by decide, by decide, by decide, by decide, by decide, by decide, by decide, by decide, by decide, by decide, by decide, by decide, ?_⟩
  dsimp only
  refine td_keep hq hr h6 (fun b1 hK => ?_)
  dsimp only
  have hh := fun kc ks x4 c b2 b3 b4 b5 b6 b7 => td_165 (post := post) (mc := mc) (ms := ms) (kc := kc) (ks := ks) (x4 := x4) hK hp hq hr hk H 7 0 c b2 b3 b4 b5 b6 b7 (by omega)
  refine br_t (by rw [nI_add, nI_add]) ?_
  generalize m % (6 - (p + q + r) + 1) = k at hk hh ⊢
  refine pk_eq k 0 (fun e => ?_) (fun e0 => pk_eq k 1 (fun e => ?_) (fun e1 => pk_eq k 2 (fun e => ?_) (fun e2 => ?_)))
  · have ec : td_col k = 0 := by rw [e]; rfl
    rw [ec] at hh
    exact ⟨_, hh _ _ _ _ _ _ _ _ _ _⟩
  · have ec : td_col k = 100 := by rw [e]; rfl
    rw [ec] at hh
    exact ⟨_, hh _ _ _ _ _ _ _ _ _ _⟩
  · have ec : td_col k = 110 := by rw [e]; rfl
    rw [ec] at hh
    exact ⟨_, hh _ _ _ _ _ _ _ _ _ _⟩
  · have ec : td_col k = 111 := by
      unfold td_col
      rw [if_neg e0, if_neg e1, if_neg e2]
    rw [ec] at hh
    exact ⟨_, hh _ _ _ _ _ _ _ _ _ _⟩
theorem td_lawOf {p0 p1 p2 p3 p4 : Int32} (hm : 8 ≤ mc) (hs : 39 ≤ ms) (H : post 1 ()) : wpL_lawOf post mc ms () p0 p1 p2 p3 p4 := by
  obtain ⟨m0, h0, e0⟩ := pk_andE p0 (m := 255) 8 (by decide)
  obtain ⟨m1, h1, e1⟩ := pk_andE p1 (m := 255) 8 (by decide)
  obtain ⟨m2, h2, e2⟩ := pk_andE p2 (m := 255) 8 (by decide)
  unfold wpL_lawOf
  rw [e0, e1, e2]
  have l0 := Nat.mod_lt m0 (show 0 < 4 by decide)
  refine ⟨by decide, nm_r (pk_rem (d := 4) (by omega) (by omega) (by omega)) ?_⟩
  generalize m0 % 4 = p at l0 ⊢
  rw [nI_1]
  have l1 := Nat.mod_lt m1 (show 0 < p + 1 by omega)
  refine ⟨nI_ne0 (by omega) (by omega), nm_r (pk_rem (by omega) (by omega) (by omega)) ?_⟩
  generalize m1 % (p + 1) = q at l1 ⊢
  rw [nI_1]
  have l2 := Nat.mod_lt m2 (show 0 < q + 1 by omega)
  refine ⟨nI_ne0 (by omega) (by omega), nm_r (pk_rem (by omega) (by omega) (by omega)) ?_⟩
  generalize m2 % (q + 1) = r at l2 ⊢
  rw [nI_add, nI_add]
  exact pk_le (p + q + r) 6 (fun h => td_52 hm hs l0 (by omega) (by omega) h H) (fun h => td_52 (r := 0) hm hs l0 (by omega) (by omega) (by omega) H)
end
theorem td_cell {post : Int32 → Prop} {L : Nat} {xs : Nat → Int32} (i : Nat) {x : Int32} (hL : L ≤ 5) (hi : i < 5) (H : ∀ y, post y) (hx : x = nI i := by rfl) : wpL_cellAt post L xs () x := by
  subst hx
  unfold wpL_cellAt
  exact pk_le L i (fun _ => H _) (fun h => ⟨pk_in i L h, H _⟩)
theorem i_vc (xs : Nat → Int32) (L : Nat) (hL : L ≤ 5) : wpL_law (fun r => r = 1) L xs := by
  unfold wpL_law
  exact td_cell 0 hL (by decide) (fun y0 => td_cell 1 hL (by decide) (fun y1 => td_cell 2 hL (by decide) (fun y2 => td_cell 3 hL (by decide) (fun y3 => td_cell 4 hL (by decide) (fun y4 => ⟨38, 592, by decide, by decide, td_lawOf (by decide) (by decide) rfl⟩)))))
end
