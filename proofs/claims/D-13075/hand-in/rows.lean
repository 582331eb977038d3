section
/-! order words: the size in the lowest four bits, then the four cells in their order -/
def ly_pm : List (List Nat) := [[0,1,2,3],[0,1,3,2],[0,2,1,3],[0,2,3,1],[0,3,1,2],[0,3,2,1],[1,0,2,3],[1,0,3,2],[1,2,0,3],[1,2,3,0],[1,3,0,2],[1,3,2,0],[2,0,1,3],[2,0,3,1],[2,1,0,3],[2,1,3,0],[2,3,0,1],[2,3,1,0],[3,0,1,2],[3,0,2,1],[3,1,0,2],[3,1,2,0],[3,2,0,1],[3,2,1,0]]
def ly_ow (p : List Nat) (n : Nat) : Int32 := nI (n + 16 * (p.getD 0 0 + 16 * (p.getD 1 0 + 16 * (p.getD 2 0 + 16 * p.getD 3 0))))
/-- cell number i taken out and put back at place k -/
def ly_mv (p : List Nat) (i k : Nat) : List Nat := (p.eraseIdx i).insertIdx k (p.getD i 0)
theorem ly_pm_lt : ∀ p, p ∈ ly_pm → ∀ k, k < 4 → p.getD k 0 < 4 := by decide +kernel
theorem ly_pm_inj : ∀ p, p ∈ ly_pm → ∀ j, j < 4 → ∀ k, k < 4 → p.getD j 0 = p.getD k 0 → j = k := by decide +kernel
theorem ly_size : ∀ p, p ∈ ly_pm → ∀ n, n < 5 → ly_ow p n &&& 15 = nI n := by decide +kernel
theorem ly_cell : ∀ p, p ∈ ly_pm → ∀ n, n < 5 → ∀ k, k < 4 → (ly_ow p n >>> (((4 * nI k) + 4) &&& 31)) &&& 15 = nI (p.getD k 0) := by decide +kernel
theorem ly_mv_m : ∀ p, p ∈ ly_pm → ∀ n, n < 4 → ∀ k, k < 4 → ly_mv p n k ∈ ly_pm := by decide +kernel
theorem ly_mvI1 : ∀ p, p ∈ ly_pm → ∀ n, n < 4 → ∀ k, k < 4 → k ≤ n → ∀ j, j < k → (ly_mv p n k).getD j 0 = p.getD j 0 := by decide +kernel
theorem ly_mvI2 : ∀ p, p ∈ ly_pm → ∀ n, n < 4 → ∀ k, k < 4 → k ≤ n → (ly_mv p n k).getD k 0 = p.getD n 0 := by decide +kernel
theorem ly_mvI3 : ∀ p, p ∈ ly_pm → ∀ n, n < 4 → ∀ k, k < 4 → k ≤ n → ∀ j, j < n → k ≤ j → (ly_mv p n k).getD (j + 1) 0 = p.getD j 0 := by decide +kernel
theorem ly_mvI (p : List Nat) (h : p ∈ ly_pm) (n : Nat) (hn : n < 4) (k : Nat) (hk : k < 4) (hkn : k ≤ n) : ly_mv p n k ∈ ly_pm ∧ (∀ j, j < k → (ly_mv p n k).getD j 0 = p.getD j 0) ∧ (ly_mv p n k).getD k 0 = p.getD n 0 ∧ (∀ j, j < n → k ≤ j → (ly_mv p n k).getD (j + 1) 0 = p.getD j 0) :=
  ⟨ly_mv_m p h n hn k hk, ly_mvI1 p h n hn k hk hkn, ly_mvI2 p h n hn k hk hkn, ly_mvI3 p h n hn k hk hkn⟩
theorem ly_mvD1 : ∀ p, p ∈ ly_pm → ∀ n, n < 4 → ∀ k, k < 4 → k ≤ n → ∀ j, j < k → (ly_mv p k n).getD j 0 = p.getD j 0 := by decide +kernel
theorem ly_mvD2 : ∀ p, p ∈ ly_pm → ∀ n, n < 4 → ∀ k, k < 4 → k ≤ n → ∀ j, j < n → k ≤ j → (ly_mv p k n).getD j 0 = p.getD (j + 1) 0 := by decide +kernel
theorem ly_mvD (p : List Nat) (h : p ∈ ly_pm) (n : Nat) (hn : n < 4) (k : Nat) (hk : k < 4) (hkn : k ≤ n) : ly_mv p k n ∈ ly_pm ∧ (∀ j, j < k → (ly_mv p k n).getD j 0 = p.getD j 0) ∧ (∀ j, j < n → k ≤ j → (ly_mv p k n).getD j 0 = p.getD (j + 1) 0) :=
  ⟨ly_mv_m p h k hk n hn, ly_mvD1 p h n hn k hk hkn, ly_mvD2 p h n hn k hk hkn⟩
theorem ly_ins : ∀ p, p ∈ ly_pm → ∀ n, n < 4 → ∀ k, k < 4 → k ≤ n →
    (((((((ly_ow p n) >>> ((4 : Int32) &&& 31)) &&& (((1 : Int32) <<< ((4 * nI k) &&& 31)) - 1)) ||| ((nI (p.getD n 0)) <<< ((4 * nI k) &&& 31))) ||| (((((ly_ow p n) >>> ((4 : Int32) &&& 31)) >>> ((4 * nI k) &&& 31)) &&& (((1 : Int32) <<< ((4 * (nI n - nI k)) &&& 31)) - 1)) <<< (((4 * nI k) + 4) &&& 31))) ||| ((((ly_ow p n) >>> ((4 : Int32) &&& 31)) >>> (((4 * nI n) + 4) &&& 31)) <<< (((4 * nI n) + 4) &&& 31))) <<< ((4 : Int32) &&& 31)) ||| (nI n + 1)
      = ly_ow (ly_mv p n k) (n + 1) := by decide +kernel
theorem ly_drp : ∀ p, p ∈ ly_pm → ∀ n, n < 4 → ∀ k, k < 4 → k ≤ n →
    (((((((ly_ow p (n + 1)) >>> ((4 : Int32) &&& 31)) &&& (((1 : Int32) <<< ((4 * nI k) &&& 31)) - 1)) ||| (((((ly_ow p (n + 1)) >>> ((4 : Int32) &&& 31)) >>> (((4 * nI k) + 4) &&& 31)) &&& (((1 : Int32) <<< ((4 * ((nI (n + 1) - 1) - nI k)) &&& 31)) - 1)) <<< ((4 * nI k) &&& 31))) ||| ((nI (p.getD k 0)) <<< ((4 * (nI (n + 1) - 1)) &&& 31))) ||| ((((ly_ow p (n + 1)) >>> ((4 : Int32) &&& 31)) >>> ((4 * nI (n + 1)) &&& 31)) <<< ((4 * nI (n + 1)) &&& 31))) <<< ((4 : Int32) &&& 31)) ||| (nI (n + 1) - 1)
      = ly_ow (ly_mv p k n) n := by decide +kernel
theorem ly_spl : ∀ p, p ∈ ly_pm → (ly_ow p 4 &&& (-16)) ||| 2 = ly_ow p 2 := by decide +kernel
theorem ly_id : [0, 1, 2, 3] ∈ ly_pm := by decide
theorem ly_ow0 : (205056 : Int32) = ly_ow [0, 1, 2, 3] 0 := by decide
theorem ly_ow2 : (205058 : Int32) = ly_ow [0, 1, 2, 3] 2 := by decide
/-! words: a slice s of 9 .. 80 is the word ly_wd s -/
def ly_wd (s : Nat) : Nat := if s % 9 = 0 then 7 + s / 9 else 8 * (7 + s / 9) + (s % 9 - 1)
def ly_zs (s : Nat) : Nat := if s % 9 = 0 then 1 else 2
/-- n has z letters (z at most 2) -/
def ly_zo (n z : Nat) : Prop := (z = 0 ∧ n < 8) ∨ (z = 1 ∧ 8 ≤ n ∧ n < 64) ∨ (z = 2 ∧ 64 ≤ n ∧ n < 512)
theorem ly_zo_wd {s : Nat} (h : 9 ≤ s) (h2 : s < 81) : ly_zo (ly_wd s) (ly_zs s) := by
  unfold ly_zo ly_wd ly_zs
  split
  · exact Or.inr (Or.inl ⟨rfl, by omega, by omega⟩)
  · exact Or.inr (Or.inr ⟨rfl, by omega, by omega⟩)
theorem ly_wd_lt {s : Nat} (h : 9 ≤ s) (h2 : s < 81) : 8 ≤ ly_wd s ∧ ly_wd s < 128 := by
  unfold ly_wd
  split <;> omega
theorem ly_sizeOf {post : Int32 → Prop} {n z : Nat} (h : ly_zo n z) (hp : post (nI z)) : wpX_sizeOf post () (nI n) := by
  have hn : n < 512 := by
    rcases h with h | h | h <;> omega
  refine ⟨3, br_f (by decide) (pk_lt n 8 (fun g => ?_) (fun g => nm_r (e' := nI 1) (by decide) (br_f (by decide) ?_)) (hy := by decide))⟩
  rotate_left
  · refine pk_lt n 64 (fun g2 => ?_) (fun g2 => nm_r (e' := nI 2) (by decide) (br_f (by decide) ?_)) (hy := by decide)
    · have e : z = 1 := by rcases h with h | h | h <;> omega
      subst e; exact hp
    · refine pk_lt n 512 (fun g3 => ?_) (fun g3 => absurd g3 (by omega)) (hy := by decide)
      have e : z = 2 := by rcases h with h | h | h <;> omega
      subst e; exact hp
  · have e : z = 0 := by rcases h with h | h | h <;> omega
    subst e; exact hp
theorem ly_sh0 : ∀ z, z < 3 → (1 : Int32) <<< ((3 * nI z) &&& 31) = nI (8 ^ z) := by decide +kernel
theorem ly_sh1 : ∀ z, z < 3 → (2 : Int32) <<< ((3 * nI z) &&& 31) = nI (2 * 8 ^ z) := by decide +kernel
theorem ly_zo_lt {n z : Nat} (h : ly_zo n z) : z < 3 ∧ n < 512 ∧ 8 ^ z ≤ 64 := by
  rcases h with ⟨rfl, h⟩ | ⟨rfl, h⟩ | ⟨rfl, h⟩
  · exact ⟨by omega, by omega, by decide⟩
  · exact ⟨by omega, by omega, by decide⟩
  · exact ⟨by omega, by omega, by decide⟩
theorem ly_isRow {post : Int32 → Prop} {n z : Nat} (h : ly_zo n z) (h0 : 8 ^ z ≤ n) (hp : post (if n < 2 * 8 ^ z then 1 else 0)) : wpX_isRow post () (nI n) := by
  obtain ⟨hz, hn, h8⟩ := ly_zo_lt h
  refine ly_sizeOf h (pk_lt 6 z (fun g => absurd g (by omega)) (fun _ => pk_lt n (8 ^ z) (fun g => absurd g (by omega)) (fun _ => pk_le (2 * 8 ^ z) n (fun g => ?_) (fun g => ?_) (hx := ly_sh1 z hz)) (hy := ly_sh0 z hz)))
  · rw [if_neg (by omega)] at hp; exact hp
  · rw [if_pos (by omega)] at hp; exact hp
theorem ly_isRow_wd {post : Int32 → Prop} {s : Nat} (h : 9 ≤ s) (h2 : s < 81) (hp : post 1) : wpX_isRow post () (nI (ly_wd s)) := by
  have h3 : 8 ^ ly_zs s ≤ ly_wd s ∧ ly_wd s < 2 * 8 ^ ly_zs s := by
    unfold ly_wd ly_zs
    split <;> omega
  exact ly_isRow (ly_zo_wd h h2) h3.1 (by rw [if_pos h3.2]; exact hp)
theorem ly_isRow_1 {post : Int32 → Prop} (hp : post 1) : wpX_isRow post () 1 :=
  ly_isRow (n := 1) (z := 0) (Or.inl ⟨rfl, by omega⟩) (by decide) hp
theorem ly_isWord_wd {post : Int32 → Prop} {s : Nat} (h : 9 ≤ s) (h2 : s < 81) (hp : post 1) : wpX_isWord post () (nI (ly_wd s)) := by
  have h3 := ly_wd_lt h h2
  exact pk_le (ly_wd s) 1 (fun g => absurd g (by omega)) (fun _ => ly_isRow_wd h h2 (br_f (by decide) hp))
theorem ly_isWord_big {post : Int32 → Prop} {n : Nat} (h : 128 ≤ n) (h2 : n < 512) (hp : post 0) : wpX_isWord post () (nI n) :=
  pk_le n 1 (fun g => absurd g (by omega)) (fun _ => ly_isRow (z := 2) (Or.inr (Or.inr ⟨rfl, by omega, h2⟩)) (by omega) (by rw [if_neg (by omega)]; exact br_t rfl hp))
theorem ly_shz : ∀ a, a < 3 → ∀ b, b < 3 → b ≤ a → (((3 * (nI a - nI b)) &&& 31).toBitVec.smod 32).toNat = 3 * (a - b) := by decide +kernel
theorem ly_begins {post : Int32 → Prop} {r n a b : Nat} (hr : ly_zo r b) (hn : ly_zo n a) (hp : post (if b ≤ a ∧ n / 2 ^ (3 * (a - b)) = r then 1 else 0)) : wpX_begins post () (nI r) (nI n) := by
  obtain ⟨ha, hn1, _⟩ := ly_zo_lt hn
  obtain ⟨hb, hr1, _⟩ := ly_zo_lt hr
  refine ly_sizeOf hn (ly_sizeOf hr (nm_e ?_))
  by_cases h : b ≤ a
  · refine br_f (by rw [pk_sub h]; exact nI_pos (by omega)) ?_
    have h4 : n / 2 ^ (3 * (a - b)) ≤ n := Nat.div_le_self _ _
    refine pk_eq (n / 2 ^ (3 * (a - b))) r (fun g => ?_) (fun g => ?_) (hx := pk_shrN (by omega) _ _ (ly_shz a ha b hb h))
    · rw [if_pos ⟨h, g⟩] at hp; exact hp
    · rw [if_neg (fun z => g z.2)] at hp; exact hp
  · refine br_t (pk_sneg (by omega) (by omega)) ?_
    rw [if_neg (fun z => h z.1)] at hp; exact hp
/-- every word begins with the row 1 -/
theorem ly_begins_1 {post : Int32 → Prop} {s : Nat} (h : 9 ≤ s) (h2 : s < 81) (hp : post 1) : wpX_begins post () 1 (nI (ly_wd s)) := by
  refine ly_begins (r := 1) (b := 0) (Or.inl ⟨rfl, by omega⟩) (ly_zo_wd h h2) ?_
  have e : ly_wd s / 2 ^ (3 * (ly_zs s - 0)) = 1 := by
    unfold ly_wd ly_zs
    split
    · show (7 + s / 9) / 8 = 1
      omega
    · show (8 * (7 + s / 9) + (s % 9 - 1)) / 64 = 1
      omega
  rw [if_pos ⟨Nat.zero_le _, e⟩]
  exact hp
theorem ly_begins_8 {post : Int32 → Prop} {s i : Nat} (h : 9 ≤ s) (h2 : s < 81) (hi : i < 8) (hp : post (if s / 9 = i + 1 then 1 else 0)) : wpX_begins post () (nI (8 + i)) (nI (ly_wd s)) := by
  refine ly_begins (b := 1) (Or.inr (Or.inl ⟨rfl, by omega, by omega⟩)) (ly_zo_wd h h2) ?_
  have e : (1 ≤ ly_zs s ∧ ly_wd s / 2 ^ (3 * (ly_zs s - 1)) = 8 + i) ↔ s / 9 = i + 1 := by
    unfold ly_wd ly_zs
    split
    · show (1 ≤ 1 ∧ (7 + s / 9) / 1 = 8 + i) ↔ _
      omega
    · show (1 ≤ 2 ∧ (8 * (7 + s / 9) + (s % 9 - 1)) / 8 = 8 + i) ↔ _
      omega
  by_cases g : s / 9 = i + 1
  · rw [if_pos (e.mpr g)]; rw [if_pos g] at hp; exact hp
  · rw [if_neg (fun z => g (e.mp z))]; rw [if_neg g] at hp; exact hp
theorem ly_layersOf {post : Int32 → Prop} {s : Nat} (h : 9 ≤ s) (h2 : s < 81) (hp : post 1) : wpX_layersOf post () (nI (ly_wd s)) := by
  refine ly_sizeOf (ly_zo_wd h h2) ?_
  unfold ly_zs
  split
  · exact hp
  · exact hp
theorem ly_sl0 : ∀ s, s < 81 → 9 ≤ s → s % 9 = 0 → 9 * (((nI (ly_wd s) >>> ((3 * ((nI 1 - 1) - (2 * 0))) &&& 31)) &&& 7) + 1) = nI s := by decide +kernel
theorem ly_sl1 : ∀ s, s < 81 → 9 ≤ s → ¬ s % 9 = 0 → (9 * (((nI (ly_wd s) >>> ((3 * ((nI 2 - 1) - (2 * 0))) &&& 31)) &&& 7) + 1) + ((nI (ly_wd s) >>> ((3 * ((nI 2 - 2) - (2 * 0))) &&& 31)) &&& 7)) + 1 = nI s := by decide +kernel
theorem ly_sliceOf {post : Int32 → Prop} {s : Nat} (h : 9 ≤ s) (h2 : s < 81) (hp : post (nI s)) : wpX_sliceOf post () (nI (ly_wd s)) 0 := by
  refine ly_sizeOf (ly_zo_wd h h2) ?_
  by_cases e : s % 9 = 0
  · rw [show ly_zs s = 1 from if_pos e]
    refine nm_e (br_f (by decide) ?_)
    rw [ly_sl0 s h2 h e]; exact hp
  · rw [show ly_zs s = 2 from if_neg e]
    refine nm_e (br_t (by decide) (nm_e ?_))
    rw [ly_sl1 s h2 h e]; exact hp
theorem ly_comesBefore {post : Int32 → Prop} {s u : Nat} (h : 9 ≤ s) (h2 : s < 81) (h3 : 9 ≤ u) (h4 : u < 81) (hp : post (if s < u then 1 else 0)) : wpX_comesBefore post () (nI (ly_wd s)) (nI (ly_wd u)) := by
  refine ly_layersOf h h2 (ly_layersOf h3 h4 (br_t (by decide) (ly_layersOf h3 h4 ⟨2, br_f (by decide) (ly_sliceOf h h2 (ly_sliceOf h3 h4 (nm_e ?_)))⟩)))
  by_cases e : s = u
  · refine br_t (by rw [e, pk_sub (Nat.le_refl _), Nat.sub_self]; rfl) (nm_e (br_t (by decide) (ly_layersOf h h2 (ly_layersOf h3 h4 (br_t (by decide) ?_)))))
    rw [if_neg (by omega)] at hp; exact hp
  · rcases Nat.lt_or_ge s u with g | g
    · have q : nI s - nI u < 0 := pk_sneg (by omega) g
      rw [if_pos g] at hp
      have q2 : ¬ (0 : Int32) ≤ nI s - nI u := fun z => absurd (Int32.lt_of_lt_of_le q z) (Int32.lt_irrefl)
      exact br_f (fun z => by rw [z] at q; exact absurd q (by decide)) (br_f q2 hp)
    · rw [if_neg (by omega)] at hp
      rw [pk_sub (by omega)]
      exact br_f (nI_ne0 (by omega) (by omega)) (br_t (nI_pos' (by omega)) hp)
/-- two different words of one row share that row's letter -/
theorem ly_shared {post : Int32 → Prop} {s u : Nat} (h : 9 ≤ s) (h4 : u < 81) (hsu : s < u) (hq : s / 9 = u / 9) (hp : post (nI (7 + s / 9))) : wpX_shared post () (nI (ly_wd s)) (nI (ly_wd u)) := by
  have h2 : s < 81 := by omega
  have h3 : 9 ≤ u := by omega
  have zs := ly_zo_wd h h2
  have bg : ∀ {ps : Int32 → Prop}, ps 1 → wpX_begins ps () (nI (7 + s / 9)) (nI (ly_wd u)) := fun {ps} hps => by
    have := ly_begins_8 (post := ps) (s := u) (i := s / 9 - 1) h3 h4 (by omega) (by rw [if_pos (by omega)]; exact hps)
    rw [show 8 + (s / 9 - 1) = 7 + s / 9 by omega] at this
    exact this
  refine ly_sizeOf zs ?_
  by_cases e : s % 9 = 0
  · rw [show ly_zs s = 1 from if_pos e] at *
    have ew : ly_wd s = 7 + s / 9 := if_pos e
    refine ⟨1, br_f (by decide) (ly_sizeOf zs ?_)⟩
    have e1 : nI (ly_wd s) >>> ((3 * (nI 1 - nI 1)) &&& 31) = nI (7 + s / 9) := by
      rw [ew, pk_shrN (by omega) _ _ (ly_shz 1 (by omega) 1 (by omega) (by omega))]
      congr 1
      show (7 + s / 9) / 1 = 7 + s / 9
      omega
    rw [e1]
    refine bg (br_f (by decide) (ly_sizeOf zs ?_))
    rw [e1]
    exact hp
  · rw [show ly_zs s = 2 from if_neg e] at *
    have ew : ly_wd s = 8 * (7 + s / 9) + (s % 9 - 1) := if_neg e
    have e2 : nI (ly_wd s) >>> ((3 * (nI 2 - nI 2)) &&& 31) = nI (ly_wd s) := by
      rw [pk_shrN (by omega) _ _ (ly_shz 2 (by omega) 2 (by omega) (by omega))]
      congr 1
      show ly_wd s / 1 = ly_wd s
      omega
    have e1 : nI (ly_wd s) >>> ((3 * (nI 2 - nI 1)) &&& 31) = nI (7 + s / 9) := by
      rw [ew, pk_shrN (by omega) _ _ (ly_shz 2 (by omega) 1 (by omega) (by omega))]
      congr 1
      show (8 * (7 + s / 9) + (s % 9 - 1)) / 8 = _
      omega
    refine ⟨2, br_f (by decide) (ly_sizeOf zs ?_)⟩
    rw [e2]
    refine ly_begins zs (ly_zo_wd h3 h4) ?_
    rw [show ly_zs u = 2 from if_neg (by omega)]
    rw [if_neg (fun z => by
      have z2 : ly_wd u / 1 = ly_wd s := z.2
      have ew2 : ly_wd u = 8 * (7 + u / 9) + (u % 9 - 1) := if_neg (by omega)
      omega)]
    refine br_t rfl (nm_r (e' := nI 1) (by decide) (br_f (by decide) (ly_sizeOf zs ?_)))
    rw [e1]
    refine bg (br_f (by decide) (ly_sizeOf zs ?_))
    rw [e1]
    exact hp
end
section
variable {t fc c l cu : Int32} {a1 a2 a3 a4 a5 a6 a7 a8 a9 a10 a11 a12 : Nat → Int32}
/-! a chain of nodes: a list of (node, its slices in order) -/
/-- entry e holds the slice s, its value, its mark, and nothing below -/
def ly_ne (V H a3 a4 a5 a6 : Nat → Int32) (e s : Nat) : Prop := a3 e = nI s ∧ a4 e = V s ∧ a5 e = H s ∧ a6 e = -1
def ly_np (V H a1 a3 a4 a5 a6 : Nat → Int32) (b : Nat) (ks : List Nat) (p : List Nat) : Prop :=
  b < 122 ∧ ks.length ≤ 4 ∧ p ∈ ly_pm ∧ a1 b = ly_ow p ks.length ∧ ∀ k, k < ks.length → ly_ne V H a3 a4 a5 a6 (4 * b + p.getD k 0) (ks.getD k 0)
def ly_nd (V H a1 a3 a4 a5 a6 : Nat → Int32) (b : Nat) (ks : List Nat) : Prop := ∃ p, ly_np V H a1 a3 a4 a5 a6 b ks p
def ly_lk (a2 : Nat → Int32) : Int32 → List Nat → Prop
  | x, [] => x = -1
  | x, b :: T => x = nI b ∧ ly_lk a2 (a2 b) T
def ly_fl : List (Nat × List Nat) → List Nat
  | [] => []
  | q :: T => q.2 ++ ly_fl T
def ly_ids (ch : List (Nat × List Nat)) : List Nat := ch.map Prod.fst
def ly_ch (V H a1 a2 a3 a4 a5 a6 : Nat → Int32) (x : Int32) (ch : List (Nat × List Nat)) : Prop :=
  ly_lk a2 x (ly_ids ch) ∧ (∀ q, q ∈ ch → ly_nd V H a1 a3 a4 a5 a6 q.1 q.2) ∧ (ly_ids ch).Nodup ∧ (ly_fl ch).Pairwise (· < ·) ∧ (∀ s, s ∈ ly_fl ch → 9 ≤ s ∧ s < 81)
def ly_full (ch : List (Nat × List Nat)) : Prop := ∀ q, q ∈ ch → q.2 ≠ []
theorem ly_fl_app (A B : List (Nat × List Nat)) : ly_fl (A ++ B) = ly_fl A ++ ly_fl B := by
  induction A with
  | nil => rfl
  | cons q A ih =>
    show q.2 ++ ly_fl (A ++ B) = (q.2 ++ ly_fl A) ++ ly_fl B
    rw [ih, List.append_assoc]
theorem ly_fl_mid (A B : List (Nat × List Nat)) (b : Nat) (ks : List Nat) : ly_fl (A ++ (b, ks) :: B) = ly_fl A ++ (ks ++ ly_fl B) := by
  rw [ly_fl_app]; rfl
theorem ly_ids_mid (A B : List (Nat × List Nat)) (b : Nat) (ks : List Nat) : ly_ids (A ++ (b, ks) :: B) = ly_ids A ++ b :: ly_ids B := by
  unfold ly_ids; rw [List.map_append]; rfl
theorem ly_gA {P Q : List Nat} {j : Nat} (h : j < P.length) : (P ++ Q).getD j 0 = P.getD j 0 := by
  rw [List.getD_eq_getElem?_getD, List.getD_eq_getElem?_getD, List.getElem?_append_left h]
theorem ly_gB {P Q : List Nat} (j : Nat) : (P ++ Q).getD (P.length + j) 0 = Q.getD j 0 := by
  rw [List.getD_eq_getElem?_getD, List.getD_eq_getElem?_getD, List.getElem?_append_right (by omega), Nat.add_sub_cancel_left]
theorem ly_gC {P Q : List Nat} {s : Nat} : (P ++ s :: Q).getD P.length 0 = s := by
  have := ly_gB (P := P) (Q := s :: Q) 0
  rw [Nat.add_zero] at this
  rw [this]; rfl
theorem ly_gM {P : List Nat} {j : Nat} (h : j < P.length) : P.getD j 0 ∈ P := by
  rw [List.getD_eq_getElem?_getD, List.getElem?_eq_getElem h]
  exact List.getElem_mem h
theorem ly_m1 {n : Nat} (h : n < 2 ^ 31) : ¬ nI n = -1 := fun z => nI_pos h (by rw [z]; decide)
theorem ly_sizeOfNode {post : Int32 → Prop} {b n : Nat} {p : List Nat} (hb : b < 122) (hp : p ∈ ly_pm) (ho : a1 b = ly_ow p n) (hn : n ≤ 4) (h : post (nI n)) : wpX_sizeOfNode post (t, fc, c, l, cu, a1, a2, a3, a4, a5, a6, a7, a8, a9, a10, a11, a12) (nI b) := by
  show vp_in (nI b) 122 ∧ post (a1 (nI b).toNatClampNeg &&& 15)
  rw [nI_clamp (show b < 2 ^ 31 by omega), ho, ly_size p hp n (by omega)]
  exact ⟨vp_in_nI hb (by omega), h⟩
theorem ly_entryAt {post : Int32 → Prop} {b n k : Nat} {p : List Nat} (hb : b < 122) (hp : p ∈ ly_pm) (ho : a1 b = ly_ow p n) (hn : n ≤ 4) (hk : k < 4) (h : post (nI (4 * b + p.getD k 0))) : wpX_entryAt post (t, fc, c, l, cu, a1, a2, a3, a4, a5, a6, a7, a8, a9, a10, a11, a12) (nI b) (nI k) := by
  show vp_in (nI b) 122 ∧ post ((4 * nI b) + ((a1 (nI b).toNatClampNeg >>> (((4 * nI k) + 4) &&& 31)) &&& 15))
  rw [nI_clamp (show b < 2 ^ 31 by omega), ho, ly_cell p hp n (by omega) k hk, show (4 : Int32) = nI 4 from rfl, pk_mul, nI_add]
  exact ⟨vp_in_nI hb (by omega), h⟩
theorem ly_nodeFor10 {post : Int32 → Prop} {V H : Nat → Int32} {s : Nat} (hs : s < 81) : ∀ (T : List (Nat × List Nat)) (b : Nat) (ks : List Nat) (n : Nat), T.length < n → b < 122 → ly_lk a2 (a2 b) (ly_ids T) →
    (∀ q, q ∈ T → ly_nd V H a1 a3 a4 a5 a6 q.1 q.2) → ly_full T → (ly_fl T).Pairwise (· < ·) → (∀ x, x ∈ ly_fl T → x < 81) →
    (∀ A b' ks' B, (b, ks) :: T = A ++ (b', ks') :: B → (∀ x, x ∈ ly_fl B → s < x) → (A ≠ [] → ∃ x, x ∈ ks' ∧ x ≤ s) → post (nI b')) →
    wX_nodeFor_10 post (nI s) t fc c l cu a1 a2 a3 a4 a5 a6 a7 a8 a9 a10 a11 a12 n (nI b) (a2 b) := by
  intro T
  induction T with
  | nil =>
    intro b ks n hn hb hl _ _ _ _ hp
    obtain ⟨m, rfl⟩ : ∃ m, n = m + 1 := ⟨n - 1, by simp at hn; omega⟩
    have e : a2 b = -1 := hl
    exact br_t e (hp [] b ks [] rfl (fun x hx => absurd hx List.not_mem_nil) (fun z => absurd rfl z))
  | cons q T ih =>
    obtain ⟨b2, k2⟩ := q
    intro b ks n hn hb hl hnd hf hso hbd hp
    obtain ⟨m, rfl⟩ : ∃ m, n = m + 1 := ⟨n - 1, by simp at hn; omega⟩
    have e : a2 b = nI b2 := hl.1
    obtain ⟨p, hb2, hk4, hpm, ho, hne⟩ : ly_nd V H a1 a3 a4 a5 a6 b2 k2 := hnd (b2, k2) (List.mem_cons_self)
    have hk2 : k2 ≠ [] := hf (b2, k2) (List.mem_cons_self)
    have hlen : 0 < k2.length := by
      cases k2 with
      | nil => exact absurd rfl hk2
      | cons _ _ => simp
    have hp4 := ly_pm_lt p hpm 0 (by omega)
    have e3 := (hne 0 hlen).1
    have hmem : k2.getD 0 0 ∈ k2 := ly_gM hlen
    have hmem2 : k2.getD 0 0 ∈ ly_fl ((b2, k2) :: T) := List.mem_append_left _ hmem
    have hso2 : ∀ x, x ∈ ly_fl ((b2, k2) :: T) → k2.getD 0 0 ≤ x := by
      intro x hx
      cases k2 with
      | nil => exact absurd rfl hk2
      | cons y k3 =>
        have h5 : (y :: (k3 ++ ly_fl T)).Pairwise (· < ·) := hso
        have h6 : x ∈ y :: (k3 ++ ly_fl T) := hx
        show y ≤ x
        rcases List.mem_cons.mp h6 with h7 | h7
        · omega
        · exact Nat.le_of_lt ((List.pairwise_cons.mp h5).1 x h7)
    have hb81 := hbd _ hmem2
    rw [e]
    refine br_f (ly_m1 (by omega)) (ly_entryAt hb2 hpm ho hk4 (k := 0) (by omega) ⟨vp_in_nI (by omega) (by omega), ?_⟩)
    refine pk_lt s (k2.getD 0 0) (fun g => ?_) (fun g => ?_) (hy := by rw [nI_clamp (by omega)]; exact e3)
    · exact hp [] b ks ((b2, k2) :: T) rfl (fun x hx => Nat.lt_of_lt_of_le g (hso2 x hx)) (fun z => absurd rfl z)
    · refine ⟨vp_in_nI hb2 (by omega), nm_r (by rw [nI_clamp (by omega)]) ?_⟩
      refine ih b2 k2 m (by simp at hn; omega) hb2 hl.2 (fun q hq => hnd q (List.mem_cons_of_mem _ hq)) (fun q hq => hf q (List.mem_cons_of_mem _ hq)) ?_ (fun x hx => hbd x (List.mem_append_right _ hx)) ?_
      · have h5 : (k2 ++ ly_fl T).Pairwise (· < ·) := hso
        exact (List.pairwise_append.mp h5).2.1
      · intro A b' ks' B hch hB hA
        refine hp ((b, ks) :: A) b' ks' B (by rw [hch]; rfl) hB (fun _ => ?_)
        cases A with
        | nil =>
          have h8 : (b2, k2) :: T = (b', ks') :: B := hch
          injection h8 with h9 _
          injection h9 with _ h10
          subst h10
          exact ⟨_, hmem, g⟩
        | cons r A => exact hA (by simp)
theorem ly_nodeFor {post : Int32 → Prop} {V H : Nat → Int32} {s b0 : Nat} {k0 : List Nat} {T : List (Nat × List Nat)} (hs : s < 81) {x : Int32}
    (hc : ly_ch V H a1 a2 a3 a4 a5 a6 x ((b0, k0) :: T)) (hf : ly_full T)
    (hp : ∀ A b ks B, (b0, k0) :: T = A ++ (b, ks) :: B → (∀ y, y ∈ ly_fl A → y < s) → (∀ y, y ∈ ly_fl B → s < y) → (A ≠ [] → ∃ y, y ∈ ks ∧ y ≤ s) → post (nI b)) :
    wpX_nodeFor post (t, fc, c, l, cu, a1, a2, a3, a4, a5, a6, a7, a8, a9, a10, a11, a12) (nI b0) (nI s) := by
  obtain ⟨hl, hnd, hno, hso, hbd⟩ := hc
  have hb0 : b0 < 122 := (hnd (b0, k0) (List.mem_cons_self)).elim (fun p h => h.1)
  refine ⟨vp_in_nI hb0 (by omega), nm_r (by rw [nI_clamp (by omega)]) ⟨T.length + 1, ?_⟩⟩
  refine ly_nodeFor10 hs T b0 k0 (T.length + 1) (by omega) hb0 hl.2 (fun q hq => hnd q (List.mem_cons_of_mem _ hq)) hf ?_ (fun y hy => (hbd y (List.mem_append_right _ hy)).2) ?_
  · have h5 : (k0 ++ ly_fl T).Pairwise (· < ·) := hso
    exact (List.pairwise_append.mp h5).2.1
  · intro A b ks B hch hB hA
    refine hp A b ks B hch ?_ hB hA
    intro y hy
    rw [hch, ly_fl_mid] at hso
    have hA2 : A ≠ [] := by
      intro z; rw [z] at hy; exact absurd hy List.not_mem_nil
    obtain ⟨z, hz, hzs⟩ := hA hA2
    exact Nat.lt_of_lt_of_le ((List.pairwise_append.mp hso).2.2 y hy z (List.mem_append_left _ hz)) hzs
theorem ly_lesserIn2 {post : Int32 → Prop} {V H : Nat → Int32} {s b : Nat} {ks p : List Nat} (hs : s < 81) (hn : ly_np V H a1 a3 a4 a5 a6 b ks p) (hb : ∀ x, x ∈ ks → x < 81)
    (hp : ∀ P Q, ks = P ++ Q → (∀ x, x ∈ P → x < s) → (∀ y R, Q = y :: R → s ≤ y) → post (nI P.length)) :
    ∀ (Q P : List Nat) (n : Nat), ks = P ++ Q → Q.length < n → (∀ x, x ∈ P → x < s) → wX_lesserIn_2 post (nI b) (nI s) t fc c l cu a1 a2 a3 a4 a5 a6 a7 a8 a9 a10 a11 a12 n (nI P.length) := by
  obtain ⟨hb2, hk4, hpm, ho, hne⟩ := hn
  intro Q
  induction Q with
  | nil =>
    intro P n hks hn hP
    obtain ⟨m, rfl⟩ : ∃ m, n = m + 1 := ⟨n - 1, by simp at hn; omega⟩
    have hl : ks.length = P.length := by rw [hks]; simp
    unfold wX_lesserIn_2
    refine ly_sizeOfNode hb2 hpm ho hk4 ?_
    refine pk_le ks.length P.length (fun _ => ?_) (fun g => absurd g (by omega))
    exact hp P [] hks hP (fun y R z => absurd z.symm (by simp))
  | cons y Q ih =>
    intro P n hks hn hP
    obtain ⟨m, rfl⟩ : ∃ m, n = m + 1 := ⟨n - 1, by simp at hn; omega⟩
    have hl : ks.length = P.length + (Q.length + 1) := by rw [hks]; simp
    have hy : ks.getD P.length 0 = y := by rw [hks]; exact ly_gC
    have hy2 : y < 81 := hb y (by rw [hks]; simp)
    have e3 := (hne P.length (by omega)).1
    have hp4 := ly_pm_lt p hpm P.length (by omega)
    unfold wX_lesserIn_2
    refine ly_sizeOfNode hb2 hpm ho hk4 ?_
    refine pk_le ks.length P.length (fun g => absurd g (by omega)) (fun _ => ly_entryAt hb2 hpm ho hk4 (k := P.length) (by omega) ⟨vp_in_nI (by omega) (by omega), ?_⟩)
    refine pk_le s y (fun g => ?_) (fun g => nm_r (e' := nI (P ++ [y]).length) ?_ ?_) (hy := by rw [nI_clamp (by omega), e3, hy])
    · exact hp P (y :: Q) hks hP (fun z R hz => by injection hz with h1 h2; omega)
    · rw [nI_1]; simp
    · refine ih (P ++ [y]) m (by rw [hks]; simp) (by simp at hn; omega) ?_
      intro x hx
      rcases List.mem_append.mp hx with h | h
      · exact hP x h
      · rw [List.mem_singleton.mp h]; exact g
theorem ly_lesserIn {post : Int32 → Prop} {V H : Nat → Int32} {s b : Nat} {ks p : List Nat} (hs : s < 81) (hn : ly_np V H a1 a3 a4 a5 a6 b ks p) (hb : ∀ x, x ∈ ks → x < 81)
    (hp : ∀ P Q, ks = P ++ Q → (∀ x, x ∈ P → x < s) → (∀ y R, Q = y :: R → s ≤ y) → post (nI P.length)) : wpX_lesserIn post (t, fc, c, l, cu, a1, a2, a3, a4, a5, a6, a7, a8, a9, a10, a11, a12) (nI b) (nI s) :=
  ⟨ks.length + 1, ly_lesserIn2 hs hn hb hp ks [] _ rfl (by omega) (fun x hx => absurd hx List.not_mem_nil)⟩
theorem ly_entryFor {post : Int32 → Prop} {V H : Nat → Int32} {s : Nat} {ch : List (Nat × List Nat)} (hs : s < 81) {x : Int32}
    (hc : ly_ch V H a1 a2 a3 a4 a5 a6 x ch) (hf : ly_full ch) (h0 : s ∉ ly_fl ch → post (-1))
    (h1 : ∀ A b P Q B p, ch = A ++ (b, P ++ s :: Q) :: B → ly_np V H a1 a3 a4 a5 a6 b (P ++ s :: Q) p → post (nI (4 * b + p.getD P.length 0))) :
    wpX_entryFor post (t, fc, c, l, cu, a1, a2, a3, a4, a5, a6, a7, a8, a9, a10, a11, a12) x (nI s) := by
  cases ch with
  | nil => exact br_t hc.1 (h0 List.not_mem_nil)
  | cons q T =>
    obtain ⟨b0, k0⟩ := q
    have e : x = nI b0 := hc.1.1
    have hb0 : b0 < 122 := (hc.2.1 (b0, k0) (List.mem_cons_self)).elim (fun p h => h.1)
    subst e
    refine br_f (ly_m1 (by omega)) (ly_nodeFor hs hc (fun q hq => hf q (List.mem_cons_of_mem _ hq)) (fun A b ks B hch hA hB _ => ?_))
    have hin : (b, ks) ∈ (b0, k0) :: T := by rw [hch]; simp
    obtain ⟨p, hn⟩ : ly_nd V H a1 a3 a4 a5 a6 b ks := hc.2.1 (b, ks) hin
    have hn2 := hn
    obtain ⟨hb2, hk4, hpm, ho, hne⟩ := hn2
    have hbd : ∀ y, y ∈ ks → y < 81 := fun y hy => (hc.2.2.2.2 y (by rw [hch, ly_fl_mid]; simp [hy])).2
    have hso := hc.2.2.2.1
    rw [hch, ly_fl_mid] at hso
    have hso3 : ks.Pairwise (· < ·) := (List.pairwise_append.mp (List.pairwise_append.mp hso).2.1).1
    have hn0 : s ∉ ks → s ∉ ly_fl ((b0, k0) :: T) := by
      intro hk hm
      rw [hch, ly_fl_mid] at hm
      rcases List.mem_append.mp hm with h | h
      · exact absurd (hA s h) (by omega)
      · rcases List.mem_append.mp h with h | h
        · exact hk h
        · exact absurd (hB s h) (by omega)
    refine ly_lesserIn hs hn hbd (fun P Q hks hP hQ => ?_)
    cases Q with
    | nil =>
      refine ly_sizeOfNode hb2 hpm ho hk4 (pk_le ks.length P.length (fun _ => ?_) (fun g => absurd g (by rw [hks]; simp)) (hb := by rw [hks] at hk4; simp at hk4; omega))
      refine h0 (hn0 ?_)
      rw [hks]
      intro hm
      rcases List.mem_append.mp hm with h | h
      · exact absurd (hP s h) (by omega)
      · exact absurd h List.not_mem_nil
    | cons y Q =>
      have hl : ks.length = P.length + (Q.length + 1) := by rw [hks]; simp
      have hy : ks.getD P.length 0 = y := by rw [hks]; exact ly_gC
      have hy2 : y < 81 := hbd y (by rw [hks]; simp)
      have e3 := (hne P.length (by omega)).1
      have hp4 := ly_pm_lt p hpm P.length (by omega)
      refine ly_sizeOfNode hb2 hpm ho hk4 (pk_le ks.length P.length (fun g => absurd g (by omega)) (fun _ => ly_entryAt hb2 hpm ho hk4 (by omega) ⟨vp_in_nI (by omega) (by omega), ?_⟩))
      refine pk_eq y s (fun g => ly_entryAt hb2 hpm ho hk4 (by omega) ?_) (fun g => ?_) (hx := by rw [nI_clamp (by omega), e3, hy])
      · subst g
        subst hks
        exact h1 A b P Q B p hch hn
      · refine h0 (hn0 ?_)
        rw [hks] at hso3 ⊢
        have hsy := hQ y Q rfl
        intro hm
        rcases List.mem_append.mp hm with h | h
        · exact absurd (hP s h) (by omega)
        · rcases List.mem_cons.mp h with h | h
          · omega
          · have := (List.pairwise_cons.mp (List.pairwise_append.mp hso3).2.1).1 s h
            omega
theorem ly_find {post : Int32 → Prop} {V H : Nat → Int32} {s : Nat} {ch : List (Nat × List Nat)} (h9 : 9 ≤ s) (hs : s < 81)
    (hc : ly_ch V H a1 a2 a3 a4 a5 a6 t ch) (hf : ly_full ch) (h0 : s ∉ ly_fl ch → post (-1))
    (h1 : ∀ A b P Q B p, ch = A ++ (b, P ++ s :: Q) :: B → ly_np V H a1 a3 a4 a5 a6 b (P ++ s :: Q) p → post (nI (4 * b + p.getD P.length 0))) :
    wpX_find post (t, fc, c, l, cu, a1, a2, a3, a4, a5, a6, a7, a8, a9, a10, a11, a12) (nI (ly_wd s)) := by
  unfold wpX_find
  dsimp only
  refine ly_layersOf h9 hs ⟨2, br_f (by decide) (ly_sliceOf h9 hs (ly_entryFor hs hc hf (fun g => br_t rfl (h0 g)) (fun A b P Q B p hch hn => ?_)))⟩
  have hp4 := ly_pm_lt p hn.2.2.1 P.length (by have := hn.2.1; simp at this; omega)
  have hb := hn.1
  exact br_f (ly_m1 (by omega)) ⟨vp_in_nI (by omega) (by omega), nm_e (nm_e (br_t (by decide) (h1 A b P Q B p hch hn)))⟩
/-- what a found entry holds -/
theorem ly_found {V H : Nat → Int32} {b s : Nat} {P Q p : List Nat} (hn : ly_np V H a1 a3 a4 a5 a6 b (P ++ s :: Q) p) :
    4 * b + p.getD P.length 0 < 488 ∧ ly_ne V H a3 a4 a5 a6 (4 * b + p.getD P.length 0) s ∧ P.length < 4 ∧ p.getD P.length 0 < 4 := by
  obtain ⟨hb, hk, hpm, ho, hne⟩ := hn
  have hl : P.length < (P ++ s :: Q).length := by simp
  have h4 := ly_pm_lt p hpm P.length (by omega)
  have := hne P.length hl
  rw [ly_gC] at this
  exact ⟨by omega, this, by omega, h4⟩
theorem ly_find_in {V H : Nat → Int32} {post : Int32 → Prop} {s : Nat} {ch : List (Nat × List Nat)} (h9 : 9 ≤ s) (hs : s < 81)
    (hc : ly_ch V H a1 a2 a3 a4 a5 a6 t ch) (hf : ly_full ch) (h0 : s ∉ ly_fl ch → post (-1))
    (h1 : ∀ e, e < 488 → s ∈ ly_fl ch → ly_ne V H a3 a4 a5 a6 e s → post (nI e)) : wpX_find post (t, fc, c, l, cu, a1, a2, a3, a4, a5, a6, a7, a8, a9, a10, a11, a12) (nI (ly_wd s)) :=
  ly_find h9 hs hc hf h0 (fun A b P Q B p hch hn => h1 _ (ly_found hn).1 (by rw [hch, ly_fl_mid]; simp) (ly_found hn).2.1)
theorem ly_hasC {V H : Nat → Int32} {post : Int32 → Prop} {s : Nat} {ch : List (Nat × List Nat)} (h9 : 9 ≤ s) (hs : s < 81)
    (hc : ly_ch V H a1 a2 a3 a4 a5 a6 t ch) (hf : ly_full ch) (hH : ∀ x, x ∈ ly_fl ch → H x = 1) (h0 : s ∉ ly_fl ch → post 0) (h1 : s ∈ ly_fl ch → post 1) : wpX_has post (t, fc, c, l, cu, a1, a2, a3, a4, a5, a6, a7, a8, a9, a10, a11, a12) (nI (ly_wd s)) := by
  unfold wpX_has
  dsimp only
  refine ly_isWord_wd h9 hs (br_f (by decide) (ly_find_in h9 hs hc hf (fun g => br_t (by decide) (h0 g)) (fun e he hm hne => ?_)))
  refine br_f (nI_pos (by omega)) ⟨vp_in_nI he (by omega), ?_⟩
  rw [nI_clamp (show e < 2 ^ 31 by omega), hne.2.2.1, hH s hm]
  exact br_f (by decide) (h1 hm)
/-- one turn of longest -/
theorem ly_longest16 {V H : Nat → Int32} {post : Int32 → Prop} {s : Nat} {ch : List (Nat × List Nat)} {x1 x2 : Int32} {n k : Nat} (hk : k < 2) (h9 : 9 ≤ s) (hs : s < 81)
    (hc : ly_ch V H a1 a2 a3 a4 a5 a6 t ch) (hf : ly_full ch) (hH : ∀ x, x ∈ ly_fl ch → H x = 1) (hx : x1 >>> ((3 * (x2 - nI (k + 1))) &&& 31) = nI (ly_wd s))
    (h0 : s ∉ ly_fl ch → wX_longest_16 post x1 x2 t fc c l cu a1 a2 a3 a4 a5 a6 a7 a8 a9 a10 a11 a12 n (nI k)) (h1 : s ∈ ly_fl ch → post (nI (ly_wd s))) : wX_longest_16 post x1 x2 t fc c l cu a1 a2 a3 a4 a5 a6 a7 a8 a9 a10 a11 a12 (n + 1) (nI (k + 1)) := by
  refine pk_lt (k + 1) 1 (fun g => absurd g (by omega)) (fun _ => nm_r hx (ly_find_in h9 hs hc hf (fun g => br_t (by decide) (nm_r (pk_m1 k) (h0 g))) (fun e he hm hne => ?_)))
  refine br_f (nI_pos (by omega)) ⟨vp_in_nI he (by omega), ?_⟩
  rw [nI_clamp (show e < 2 ^ 31 by omega), hne.2.2.1, hH s hm]
  exact br_f (by decide) (h1 hm)
theorem ly_longestC {V H : Nat → Int32} {post : Int32 → Prop} {s : Nat} {ch : List (Nat × List Nat)} (h9 : 9 ≤ s) (hs : s < 81) (h2 : ¬ s % 9 = 0)
    (hc : ly_ch V H a1 a2 a3 a4 a5 a6 t ch) (hf : ly_full ch) (hH : ∀ x, x ∈ ly_fl ch → H x = 1)
    (hA : s ∈ ly_fl ch → post (nI (ly_wd s))) (hB : s ∉ ly_fl ch → 9 * (s / 9) ∈ ly_fl ch → post (nI (7 + s / 9))) (hC : s ∉ ly_fl ch → 9 * (s / 9) ∉ ly_fl ch → post (-2)) : wpX_longest post (t, fc, c, l, cu, a1, a2, a3, a4, a5, a6, a7, a8, a9, a10, a11, a12) (nI (ly_wd s)) := by
  have zs := ly_zo_wd h9 hs
  rw [show ly_zs s = 2 from if_neg h2] at zs
  have ew : ly_wd s = 8 * (7 + s / 9) + (s % 9 - 1) := if_neg h2
  have ew2 : ly_wd (9 * (s / 9)) = 7 + s / 9 := by
    unfold ly_wd
    rw [if_pos (by omega)]
    omega
  unfold wpX_longest
  dsimp only
  refine ly_isWord_wd h9 hs (br_f (by decide) (ly_sizeOf zs ⟨3, ?_⟩))
  refine ly_longest16 (k := 1) (by omega) h9 hs hc hf hH ?_ (fun g => ly_longest16 (k := 0) (s := 9 * (s / 9)) (by omega) (by omega) (by omega) hc hf hH ?_ (fun g2 => ?_) (fun g2 => ?_)) hA
  · rw [pk_shrN (by omega) _ _ (ly_shz 2 (by omega) 2 (by omega) (by omega))]
    congr 1
    show ly_wd s / 1 = ly_wd s
    omega
  · rw [ew2, ew, pk_shrN (by omega) _ _ (ly_shz 2 (by omega) 1 (by omega) (by omega))]
    congr 1
    show (8 * (7 + s / 9) + (s % 9 - 1)) / 8 = _
    omega
  · exact br_t (by decide) (hC g g2)
  · rw [ew2]; exact hB g g2
end
section
variable {t fc c l cu : Int32} {a1 a2 a3 a4 a5 a6 a7 a8 a9 a10 a11 a12 : Nat → Int32}
variable {V H V' H' a1' a2' a3' a4' a5' a6' : Nat → Int32}
/-! what a store leaves as it was -/
theorem ly_pw {K : List Nat} (h : K.Pairwise (· < ·)) {i j : Nat} (hij : i < j) (hj : j < K.length) : K.getD i 0 < K.getD j 0 := by
  have := List.pairwise_iff_getElem.mp h i j (by omega) hj hij
  rw [List.getElem_eq_getD 0, List.getElem_eq_getD 0] at this
  exact this
theorem ly_pw_ne {K : List Nat} (h : K.Pairwise (· < ·)) {i j : Nat} (hi : i < K.length) (hj : j < K.length) (hij : i ≠ j) : K.getD i 0 ≠ K.getD j 0 := by
  rcases Nat.lt_or_ge i j with g | g
  · have := ly_pw h g hj; omega
  · have := ly_pw h (show j < i by omega) hi; omega
theorem ly_nd_fr {b : Nat} {ks : List Nat} (h : ly_nd V H a1 a3 a4 a5 a6 b ks) (e1 : a1' b = a1 b)
    (e : ∀ k, k < 4 → a3' (4 * b + k) = a3 (4 * b + k) ∧ a4' (4 * b + k) = a4 (4 * b + k) ∧ a5' (4 * b + k) = a5 (4 * b + k) ∧ a6' (4 * b + k) = a6 (4 * b + k))
    (eV : ∀ x, x ∈ ks → V' x = V x ∧ H' x = H x) : ly_nd V' H' a1' a3' a4' a5' a6' b ks := by
  obtain ⟨p, hb, hk, hpm, ho, hne⟩ := h
  refine ⟨p, hb, hk, hpm, by rw [e1, ho], fun k hkl => ?_⟩
  obtain ⟨n1, n2, n3, n4⟩ := hne k hkl
  obtain ⟨e3, e4, e5, e6⟩ := e (p.getD k 0) (ly_pm_lt p hpm k (by omega))
  obtain ⟨v1, v2⟩ := eV _ (ly_gM hkl)
  exact ⟨by rw [e3, n1], by rw [e4, n2, v1], by rw [e5, n3, v2], by rw [e6, n4]⟩
theorem ly_lk_fr : ∀ (D : List Nat) (x : Int32), ly_lk a2 x D → (∀ b, b ∈ D → a2' b = a2 b) → ly_lk a2' x D := by
  intro D
  induction D with
  | nil => intro x h _; exact h
  | cons b D ih =>
    intro x h e
    refine ⟨h.1, ?_⟩
    rw [e b (List.mem_cons_self)]
    exact ih _ h.2 (fun y hy => e y (List.mem_cons_of_mem _ hy))
theorem ly_lk_spl {b f : Nat} (hb : a2' b = nI f) (hf : a2' f = a2 b) (ho : ∀ y, y ≠ b → y ≠ f → a2' y = a2 y) :
    ∀ (A B : List Nat) (x : Int32), b ∉ A → b ∉ B → f ∉ A → f ∉ B → ly_lk a2 x (A ++ b :: B) → ly_lk a2' x (A ++ b :: f :: B) := by
  intro A
  induction A with
  | nil =>
    intro B x _ h2 _ h4 h
    refine ⟨h.1, hb, ?_⟩
    rw [hf]
    exact ly_lk_fr B _ h.2 (fun y hy => ho y (fun z => h2 (z ▸ hy)) (fun z => h4 (z ▸ hy)))
  | cons q A ih =>
    intro B x h1 h2 h3 h4 h
    simp only [List.mem_cons, not_or] at h1 h3
    refine ⟨h.1, ?_⟩
    show ly_lk a2' (a2' q) (A ++ b :: f :: B)
    rw [ho q (fun z => h1.1 z.symm) (fun z => h3.1 z.symm)]
    exact ih B _ h1.2 h2 h3.2 h4 h.2
theorem ly_lk_del {b g : Nat} (hg : a2' g = a2 b) (ho : ∀ y, y ≠ g → a2' y = a2 y) :
    ∀ (A B : List Nat) (x : Int32), g ∉ A → g ∉ B → ly_lk a2 x (A ++ g :: b :: B) → ly_lk a2' x (A ++ g :: B) := by
  intro A
  induction A with
  | nil =>
    intro B x _ h2 h
    refine ⟨h.1, ?_⟩
    rw [hg]
    exact ly_lk_fr B _ h.2.2 (fun y hy => ho y (fun z => h2 (z ▸ hy)))
  | cons q A ih =>
    intro B x h1 h2 h
    simp only [List.mem_cons, not_or] at h1
    refine ⟨h.1, ?_⟩
    show ly_lk a2' (a2' q) (A ++ g :: B)
    rw [ho q (fun z => h1.1 z.symm)]
    exact ih B _ h1.2 h2 h.2
theorem ly_lk_suf : ∀ (A B : List Nat) (b : Nat) (x : Int32), ly_lk a2 x (A ++ b :: B) → ly_lk a2 (nI b) (b :: B) := by
  intro A
  induction A with
  | nil => intro B b x h; exact ⟨rfl, h.2⟩
  | cons q A ih => intro B b x h; exact ih B b _ h.2
/-- the chain from one of its nodes on -/
theorem ly_ch_suf {A B : List (Nat × List Nat)} {b : Nat} {ks : List Nat} {x : Int32} (h : ly_ch V H a1 a2 a3 a4 a5 a6 x (A ++ (b, ks) :: B)) : ly_ch V H a1 a2 a3 a4 a5 a6 (nI b) ((b, ks) :: B) := by
  obtain ⟨h1, h2, h3, h4, h5⟩ := h
  rw [ly_ids_mid] at h1 h3
  rw [ly_fl_mid] at h4 h5
  exact ⟨ly_lk_suf _ _ _ _ h1, fun q hq => h2 q (List.mem_append_right _ hq), (List.nodup_append.mp h3).2.1, (List.pairwise_append.mp h4).2.1, fun s hs => h5 s (List.mem_append_right _ hs)⟩
theorem ly_mid_ne {A B : List (Nat × List Nat)} {b : Nat} {ks : List Nat} (h : (ly_ids (A ++ (b, ks) :: B)).Nodup) : ∀ q, q ∈ A ∨ q ∈ B → q.1 ≠ b := by
  rw [ly_ids_mid] at h
  intro q hq e
  have h2 := List.nodup_append.mp h
  rcases hq with hq | hq
  · exact h2.2.2 q.1 (List.mem_map_of_mem hq) b (List.mem_cons_self) e
  · have h3 := (List.nodup_cons.mp h2.2.1).1
    exact h3 (e ▸ List.mem_map_of_mem hq)
theorem ly_mid_nx {A B : List (Nat × List Nat)} {b : Nat} {P Q : List Nat} {s : Nat} (h : (ly_fl (A ++ (b, P ++ s :: Q) :: B)).Pairwise (· < ·)) :
    (∀ y, y ∈ ly_fl A ∨ y ∈ ly_fl B → y ≠ s) ∧ (P ++ s :: Q).Pairwise (· < ·) := by
  rw [ly_fl_mid] at h
  have h1 := List.pairwise_append.mp h
  have h2 := List.pairwise_append.mp h1.2.1
  refine ⟨fun y hy e => ?_, h2.1⟩
  rcases hy with hy | hy
  · have := h1.2.2 y hy s (by simp); omega
  · have := h2.2.2 s (by simp) y hy; omega
theorem ly_in_fl {A : List (Nat × List Nat)} {q : Nat × List Nat} (hq : q ∈ A) : ∀ y, y ∈ q.2 → y ∈ ly_fl A := by
  induction A with
  | nil => exact absurd hq List.not_mem_nil
  | cons r A ih =>
    intro y hy
    rcases List.mem_cons.mp hq with h | h
    · subst h; exact List.mem_append_left _ hy
    · exact List.mem_append_right _ (ih h y hy)
/-- writing the value and the mark of one entry -/
theorem ly_ch_w {A B : List (Nat × List Nat)} {b s : Nat} {P Q p : List Nat} {x : Int32} (hc : ly_ch V H a1 a2 a3 a4 a5 a6 x (A ++ (b, P ++ s :: Q) :: B))
    (hn : ly_np V H a1 a3 a4 a5 a6 b (P ++ s :: Q) p)
    (h4 : ∀ j, j ≠ 4 * b + p.getD P.length 0 → a4' j = a4 j) (h5 : ∀ j, j ≠ 4 * b + p.getD P.length 0 → a5' j = a5 j)
    (hV : ∀ y, y ≠ s → V' y = V y) (hH : ∀ y, y ≠ s → H' y = H y) (h4e : a4' (4 * b + p.getD P.length 0) = V' s) (h5e : a5' (4 * b + p.getD P.length 0) = H' s) :
    ly_ch V' H' a1 a2 a3 a4' a5' a6 x (A ++ (b, P ++ s :: Q) :: B) ∧ ly_np V' H' a1 a3 a4' a5' a6 b (P ++ s :: Q) p := by
  obtain ⟨c1, c2, c3, c4, c5⟩ := hc
  have hne := ly_mid_ne c3
  obtain ⟨hnx, hso⟩ := ly_mid_nx c4
  have hnp : ly_np V' H' a1 a3 a4' a5' a6 b (P ++ s :: Q) p := by
    obtain ⟨hb, hk, hpm, ho, hn2⟩ := hn
    refine ⟨hb, hk, hpm, ho, fun k hkl => ?_⟩
    obtain ⟨n1, n2, n3, n4⟩ := hn2 k hkl
    have hPl : P.length < (P ++ s :: Q).length := by simp
    by_cases e : k = P.length
    · subst e
      rw [ly_gC] at n1 n2 n3 ⊢
      exact ⟨n1, h4e, h5e, n4⟩
    · have e2 : 4 * b + p.getD k 0 ≠ 4 * b + p.getD P.length 0 := fun z => e (ly_pm_inj p hpm k (by omega) P.length (by omega) (by omega))
      have e3 : (P ++ s :: Q).getD k 0 ≠ s := by
        have := ly_pw_ne hso hkl hPl e
        rw [ly_gC] at this
        exact this
      exact ⟨n1, by rw [h4 _ e2, n2, hV _ e3], by rw [h5 _ e2, n3, hH _ e3], n4⟩
  refine ⟨⟨c1, fun q hq => ?_, c3, c4, c5⟩, hnp⟩
  have p4 := (ly_found hn).2.2.2
  have other : q ∈ A ∨ q ∈ B → ly_nd V' H' a1 a3 a4' a5' a6 q.1 q.2 := by
    intro h
    have hq1 := hne q h
    refine ly_nd_fr (c2 q hq) rfl (fun k hk => ⟨rfl, h4 _ (by omega), h5 _ (by omega), rfl⟩) (fun y hy => ?_)
    have : y ≠ s := hnx y (h.elim (fun z => Or.inl (ly_in_fl z y hy)) (fun z => Or.inr (ly_in_fl z y hy)))
    exact ⟨hV y this, hH y this⟩
  rcases List.mem_append.mp hq with h | h
  · exact other (Or.inl h)
  · rcases List.mem_cons.mp h with h | h
    · subst h; exact ⟨p, hnp⟩
    · exact other (Or.inr h)
/-- the chain with a slice more in one node -/
theorem ly_ch_i {A B : List (Nat × List Nat)} {b s : Nat} {P Q p : List Nat} {x : Int32} (hc : ly_ch V H a1 a2 a3 a4 a5 a6 x (A ++ (b, P ++ Q) :: B))
    (hn : ly_np V H a1 a3 a4 a5 a6 b (P ++ Q) p) (hl : (P ++ Q).length < 4) (h9 : 9 ≤ s) (hs : s < 81)
    (hA : ∀ y, y ∈ ly_fl A → y < s) (hB : ∀ y, y ∈ ly_fl B → s < y) (hP : ∀ y, y ∈ P → y < s) (hQ : ∀ y, y ∈ Q → s < y)
    (h1 : ∀ j, j ≠ b → a1' j = a1 j) (h1e : a1' b = ly_ow (ly_mv p (P ++ Q).length P.length) ((P ++ Q).length + 1))
    (h3 : ∀ j, j ≠ 4 * b + p.getD (P ++ Q).length 0 → a3' j = a3 j) (h4 : ∀ j, j ≠ 4 * b + p.getD (P ++ Q).length 0 → a4' j = a4 j)
    (h5 : ∀ j, j ≠ 4 * b + p.getD (P ++ Q).length 0 → a5' j = a5 j) (h6 : ∀ j, j ≠ 4 * b + p.getD (P ++ Q).length 0 → a6' j = a6 j)
    (hV : ∀ y, y ≠ s → V' y = V y) (hH : ∀ y, y ≠ s → H' y = H y)
    (he : ly_ne V' H' a3' a4' a5' a6' (4 * b + p.getD (P ++ Q).length 0) s) :
    ly_ch V' H' a1' a2 a3' a4' a5' a6' x (A ++ (b, P ++ s :: Q) :: B) ∧ ly_np V' H' a1' a3' a4' a5' a6' b (P ++ s :: Q) (ly_mv p (P ++ Q).length P.length) := by
  obtain ⟨c1, c2, c3, c4, c5⟩ := hc
  have hne := ly_mid_ne c3
  obtain ⟨hb, hk, hpm, ho, hn2⟩ := hn
  have hlen : (P ++ Q).length = P.length + Q.length := List.length_append
  have hlen2 : (P ++ s :: Q).length = P.length + Q.length + 1 := by simp; omega
  obtain ⟨m1, m2, m3, m4⟩ := ly_mvI p hpm (P ++ Q).length hl P.length (by omega) (by omega)
  have p4 := ly_pm_lt p hpm (P ++ Q).length hl
  have hnp : ly_np V' H' a1' a3' a4' a5' a6' b (P ++ s :: Q) (ly_mv p (P ++ Q).length P.length) := by
    refine ⟨hb, by omega, m1, by rw [h1e, hlen, hlen2], fun k hkl => ?_⟩
    have old : ∀ j, j < (P ++ Q).length → ly_ne V' H' a3' a4' a5' a6' (4 * b + p.getD j 0) ((P ++ Q).getD j 0) := by
      intro j hj
      obtain ⟨n1, n2, n3, n4⟩ := hn2 j hj
      have e2 : 4 * b + p.getD j 0 ≠ 4 * b + p.getD (P ++ Q).length 0 := fun z => by
        have := ly_pm_inj p hpm j (by omega) (P ++ Q).length hl (by omega)
        omega
      have e3 : (P ++ Q).getD j 0 ≠ s := by
        have := ly_gM hj
        rcases List.mem_append.mp this with h | h
        · have := hP _ h; omega
        · have := hQ _ h; omega
      exact ⟨by rw [h3 _ e2, n1], by rw [h4 _ e2, n2, hV _ e3], by rw [h5 _ e2, n3, hH _ e3], by rw [h6 _ e2, n4]⟩
    rcases Nat.lt_or_ge k P.length with g | g
    · rw [m2 k g, ly_gA g, ← ly_gA (Q := Q) g]
      exact old k (by omega)
    · by_cases e : k = P.length
      · subst e
        rw [m3, ly_gC]
        exact he
      · obtain ⟨j, rfl⟩ : ∃ j, k = P.length + (j + 1) := ⟨k - P.length - 1, by omega⟩
        have := old (P.length + j) (by omega)
        rw [ly_gB] at this
        rw [ly_gB, show P.length + (j + 1) = (P.length + j) + 1 by omega, m4 (P.length + j) (by omega) (by omega)]
        exact this
  have nx : ∀ y, y ∈ ly_fl A ∨ y ∈ ly_fl B → y ≠ s := by
    intro y hy
    rcases hy with h | h
    · have := hA y h; omega
    · have := hB y h; omega
  refine ⟨⟨by rw [ly_ids_mid] at c1 ⊢; exact c1, fun q hq => ?_, by rw [ly_ids_mid] at c3 ⊢; exact c3, ?_, fun y hy => ?_⟩, hnp⟩
  · have other : (q ∈ A ∨ q ∈ B) → ly_nd V' H' a1' a3' a4' a5' a6' q.1 q.2 := by
      intro h
      have hq1 := hne q h
      refine ly_nd_fr (c2 q (h.elim (fun z => List.mem_append_left _ z) (fun z => List.mem_append_right _ (List.mem_cons_of_mem _ z)))) (h1 _ hq1) (fun k hk => ⟨h3 _ (by omega), h4 _ (by omega), h5 _ (by omega), h6 _ (by omega)⟩) (fun y hy => ?_)
      have : y ≠ s := nx y (h.elim (fun z => Or.inl (ly_in_fl z y hy)) (fun z => Or.inr (ly_in_fl z y hy)))
      exact ⟨hV y this, hH y this⟩
    rcases List.mem_append.mp hq with h | h
    · exact other (Or.inl h)
    · rcases List.mem_cons.mp h with h | h
      · subst h; exact ⟨_, hnp⟩
      · exact other (Or.inr h)
  · rw [ly_fl_mid] at c4 ⊢
    simp only [List.pairwise_append, List.pairwise_cons, List.mem_append, List.mem_cons] at c4 ⊢
    obtain ⟨d1, ⟨⟨d2, d3, d4⟩, d5, d6⟩, d7⟩ := c4
    refine ⟨d1, ⟨⟨d2, ⟨hQ, d3⟩, ?_⟩, d5, ?_⟩, ?_⟩
    · intro y hy z hz
      rcases hz with h | h
      · subst h; exact hP y hy
      · exact d4 y hy z h
    · intro y hy z hz
      rcases hy with h | h | h
      · exact d6 y (Or.inl h) z hz
      · subst h; exact hB z hz
      · exact d6 y (Or.inr h) z hz
    · intro y hy z hz
      rcases hz with (h | h | h) | h
      · exact d7 y hy z (Or.inl (Or.inl h))
      · subst h; exact hA y hy
      · exact d7 y hy z (Or.inl (Or.inr h))
      · exact d7 y hy z (Or.inr h)
  · rw [ly_fl_mid] at hy c5
    simp only [List.mem_append, List.mem_cons] at hy c5
    rcases hy with h | (h | h | h) | h
    · exact c5 y (Or.inl h)
    · exact c5 y (Or.inr (Or.inl (Or.inl h)))
    · subst h; exact ⟨h9, hs⟩
    · exact c5 y (Or.inr (Or.inl (Or.inr h)))
    · exact c5 y (Or.inr (Or.inr h))
/-! free nodes: a stack -/
def ly_fr (fc : Int32) (a7 : Nat → Int32) (D fr : List Nat) : Prop :=
  fc = nI fr.length ∧ (∀ j, j < fr.length → a7 j = nI (fr.getD j 0)) ∧ fr.Nodup ∧ (∀ b, b ∈ fr → b < 122 ∧ b ∉ D) ∧ D.length + fr.length = 122
theorem ly_takeNode {post : Int32 → St1 → Prop} {n f : Nat} (hn : n < 122) (h7 : a7 n = nI f) (hf : f < 122) (hp : post (nI f) (t, nI n, c, l, cu, upd a1 f 205056, upd a2 f (-1), a3, a4, a5, a6, a7, a8, a9, a10, a11, a12)) : wpX_takeNode post (t, nI (n + 1), c, l, cu, a1, a2, a3, a4, a5, a6, a7, a8, a9, a10, a11, a12) :=
  nm_r (nI_pred n) ⟨vp_in_nI hn (by omega), nm_r (e' := nI f) (by rw [nI_clamp (by omega)]; exact h7) ⟨vp_in_nI hf (by omega), nm_r (e' := upd a1 f 205056) (by rw [nI_clamp (by omega)]) ⟨vp_in_nI hf (by omega), nm_r (e' := upd a2 f (-1)) (by rw [nI_clamp (by omega)]) hp⟩⟩⟩
theorem ly_split_end {post : St1 → Prop} {b f n : Nat} (hb : b < 122) (hf : f < 122) (hp : post (t, fc, c, l, cu, upd (upd a1 f 205058) b ((upd a1 f 205058 b &&& (-16)) ||| 2), a2, a3, a4, a5, a6, a7, a8, a9, a10, a11, a12)) : wX_split_26 post (nI b) (nI f) t fc c l cu (n + 1) (nI 2) a1 a2 a3 a4 a5 a6 a7 a8 a9 a10 a11 a12 := by
  refine br_t (by decide) ⟨vp_in_nI hf (by omega), nm_r (e' := upd a1 f 205058) (by rw [nI_clamp (by omega)]) ⟨vp_in_nI hb (by omega), vp_in_nI hb (by omega), nm_r (e' := upd (upd a1 f 205058) b ((upd a1 f 205058 b &&& (-16)) ||| 2)) (by rw [nI_clamp (by omega)]) hp⟩⟩
theorem ly_nar1 {x : Int32} (h : x = 1) : vp_nar .boolean x = 1 := by
  subst h; decide
theorem ly_split_step {post : St1 → Prop} {b f k n : Nat} {p : List Nat} (hb : b < 122) (hf : f < 122) (hk : k < 2) (hpm : p ∈ ly_pm) (ho : a1 b = ly_ow p 4) (h5 : a5 (4 * b + p.getD (2 + k) 0) = 1)
    (hp : wX_split_26 post (nI b) (nI f) t fc c l cu n (nI (k + 1)) a1 a2 (upd a3 (4 * f + k) (a3 (4 * b + p.getD (2 + k) 0))) (upd a4 (4 * f + k) (a4 (4 * b + p.getD (2 + k) 0))) (upd a5 (4 * f + k) 1) (upd a6 (4 * f + k) (a6 (4 * b + p.getD (2 + k) 0))) a7 a8 a9 a10 a11 a12) :
    wX_split_26 post (nI b) (nI f) t fc c l cu (n + 1) (nI k) a1 a2 a3 a4 a5 a6 a7 a8 a9 a10 a11 a12 := by
  have p4 := ly_pm_lt p hpm (2 + k) (by omega)
  have hi : ∀ {A : Prop}, A → vp_in (nI (4 * b + p.getD (2 + k) 0)) 488 ∧ A := fun h => ⟨vp_in_nI (by omega) (by omega), h⟩
  have ho2 : ∀ {A : Prop}, A → vp_in (nI (4 * f + k)) 488 ∧ A := fun h => ⟨vp_in_nI (by omega) (by omega), h⟩
  have ce : (nI (4 * b + p.getD (2 + k) 0)).toNatClampNeg = 4 * b + p.getD (2 + k) 0 := nI_clamp (by omega)
  have cf : (nI (4 * f + k)).toNatClampNeg = 4 * f + k := nI_clamp (by omega)
  refine pk_le 2 k (fun g => absurd g (by omega)) (fun _ => ?_)
  rw [show (2 : Int32) + nI k = nI (2 + k) from nI_add 2 k]
  refine ly_entryAt hb hpm ho (by omega) (by omega) (nm_r (e' := nI (4 * f + k)) (by rw [show (4 : Int32) = nI 4 from rfl, pk_mul, nI_add]) ?_)
  rw [ce, cf]
  refine hi (ho2 (nm_e (hi (ho2 (nm_e (hi (ho2 (nm_r (e' := upd a5 (4 * f + k) 1) (by rw [ly_nar1 h5]) (hi (ho2 (nm_e (nm_r (nI_1 k) ?_))))))))))))
  exact hp
theorem ly_four {ks : List Nat} (h : ks.length = 4) : ∃ k0 k1 k2 k3, ks = [k0, k1, k2, k3] := by
  match ks, h with
  | [k0, k1, k2, k3], _ => exact ⟨k0, k1, k2, k3, rfl⟩
theorem ly_split {post : St1 → Prop} {A B : List (Nat × List Nat)} {b n f : Nat} {ks : List Nat} {x : Int32} (hc : ly_ch V H a1 a2 a3 a4 a5 a6 x (A ++ (b, ks) :: B)) (h4 : ks.length = 4)
    (hH : ∀ y, y ∈ ks → H y = 1) (hn : n < 122) (h7 : a7 n = nI f) (hf : f < 122) (hfi : f ∉ ly_ids (A ++ (b, ks) :: B))
    (hp : ∀ a1' a2' a3' a4' a5' a6', ly_ch V H a1' a2' a3' a4' a5' a6' x (A ++ (b, ks.take 2) :: (f, ks.drop 2) :: B) → post (t, nI n, c, l, cu, a1', a2', a3', a4', a5', a6', a7, a8, a9, a10, a11, a12)) :
    wpX_split post (t, nI (n + 1), c, l, cu, a1, a2, a3, a4, a5, a6, a7, a8, a9, a10, a11, a12) (nI b) := by
  obtain ⟨k0, k1, k2, k3, rfl⟩ := ly_four h4
  obtain ⟨c1, c2, c3, c4, c5⟩ := hc
  obtain ⟨p, hb, _, hpm, ho, hne⟩ : ly_nd V H a1 a3 a4 a5 a6 b [k0, k1, k2, k3] := c2 (b, [k0, k1, k2, k3]) (by simp)
  have hid := hfi
  rw [ly_ids_mid] at hid
  simp only [List.mem_append, List.mem_cons, not_or] at hid
  obtain ⟨hfA, hfb, hfB⟩ := hid
  have hmn := ly_mid_ne c3
  have ho' : a1 b = ly_ow p 4 := ho
  have p0 := ly_pm_lt p hpm 0 (by omega)
  have p1 := ly_pm_lt p hpm 1 (by omega)
  have p2 := ly_pm_lt p hpm 2 (by omega)
  have p3 := ly_pm_lt p hpm 3 (by omega)
  have q0 : ly_ne V H a3 a4 a5 a6 (4 * b + p.getD 0 0) k0 := hne 0 (by simp)
  have q1 : ly_ne V H a3 a4 a5 a6 (4 * b + p.getD 1 0) k1 := hne 1 (by simp)
  have q2 : ly_ne V H a3 a4 a5 a6 (4 * b + p.getD 2 0) k2 := hne 2 (by simp)
  have q3 : ly_ne V H a3 a4 a5 a6 (4 * b + p.getD 3 0) k3 := hne 3 (by simp)
  have eb : upd a1 f 205056 b = ly_ow p 4 := by rw [pk_un (by omega), ho']
  unfold wpX_split
  refine ly_takeNode hn h7 hf ⟨vp_in_nI hb (by omega), vp_in_nI hf (by omega), nm_r (e' := upd (upd a2 f (-1)) f (a2 b)) (by rw [nI_clamp (by omega), nI_clamp (by omega), pk_un (by omega)]) ⟨vp_in_nI hb (by omega), nm_r (e' := upd (upd (upd a2 f (-1)) f (a2 b)) b (nI f)) (by rw [nI_clamp (by omega)]) ⟨3, ?_⟩⟩⟩
  have s5 : a5 (4 * b + p.getD (2 + 0) 0) = 1 := by
    have := q2.2.2.1
    rw [hH k2 (by simp)] at this
    exact this
  have s5' : upd a5 (4 * f + 0) 1 (4 * b + p.getD (2 + 1) 0) = 1 := by
    have h := q3.2.2.1
    rw [hH k3 (by simp)] at h
    rw [pk_un (by show 4 * b + p.getD 3 0 ≠ 4 * f + 0; omega)]
    exact h
  refine ly_split_step (k := 0) hb hf (by omega) hpm eb s5 (ly_split_step (k := 1) hb hf (by omega) hpm eb s5' (ly_split_end hb hf ?_))
  apply hp
  have n3 : ∀ {g : Nat → Int32}, g (4 * b + p.getD (2 + 1) 0) = g (4 * b + p.getD 3 0) := rfl
  have off : ∀ {g : Nat → Int32} {v w : Int32} {j : Nat}, j ≠ 4 * f + 0 → j ≠ 4 * f + 1 → upd (upd g (4 * f + 0) v) (4 * f + 1) w j = g j := fun h0 h1 => by rw [pk_un h1, pk_un h0]
  have at0 : ∀ {g : Nat → Int32} {v w : Int32}, upd (upd g (4 * f + 0) v) (4 * f + 1) w (4 * f + 0) = v := fun {g v w} => by rw [pk_un (by omega), pk_us]
  have e3 : ∀ {g : Nat → Int32} {v : Int32}, upd g (4 * f + 0) v (4 * b + p.getD (2 + 1) 0) = g (4 * b + p.getD 3 0) := fun {g v} => pk_un (by show 4 * b + p.getD 3 0 ≠ 4 * f + 0; omega)
  refine ⟨?_, fun q hq => ?_, ?_, ?_, ?_⟩
  · have i1 : ly_ids (A ++ (b, [k0, k1, k2, k3].take 2) :: (f, [k0, k1, k2, k3].drop 2) :: B) = ly_ids A ++ b :: f :: ly_ids B := by rw [ly_ids_mid]; rfl
    rw [i1]
    rw [ly_ids_mid] at c1 c3
    have d := List.nodup_append.mp c3
    refine ly_lk_spl (b := b) (f := f) pk_us (by rw [pk_un (by omega), pk_us]) (fun y hy hy2 => by rw [pk_un hy, pk_un hy2, pk_un hy2]) _ _ _ ?_ (List.nodup_cons.mp d.2.1).1 hfA hfB c1
    intro z
    exact d.2.2 b z b (List.mem_cons_self) rfl
  · have hcase : q = (b, [k0, k1]) ∨ q = (f, [k2, k3]) ∨ q ∈ A ∨ q ∈ B := by
      simp only [List.mem_append, List.mem_cons] at hq
      rcases hq with h | h | h | h
      · exact Or.inr (Or.inr (Or.inl h))
      · exact Or.inl h
      · exact Or.inr (Or.inl h)
      · exact Or.inr (Or.inr (Or.inr h))
    rcases hcase with h | h | h
    · subst h
      refine ⟨p, hb, by simp, hpm, ?_, fun k hk => ?_⟩
      · show upd (upd (upd a1 f 205056) f 205058) b _ b = ly_ow p 2
        rw [pk_us, pk_un (by omega), eb]
        exact ly_spl p hpm
      · have hk2 : k < 2 := hk
        rcases (show k = 0 ∨ k = 1 by omega) with h | h
        · subst h
          exact ⟨(off (by omega) (by omega)).trans q0.1, (off (by omega) (by omega)).trans q0.2.1, (off (by omega) (by omega)).trans q0.2.2.1, (off (by omega) (by omega)).trans q0.2.2.2⟩
        · subst h
          exact ⟨(off (by omega) (by omega)).trans q1.1, (off (by omega) (by omega)).trans q1.2.1, (off (by omega) (by omega)).trans q1.2.2.1, (off (by omega) (by omega)).trans q1.2.2.2⟩
    · subst h
      refine ⟨[0, 1, 2, 3], hf, by simp, ly_id, ?_, fun k hk => ?_⟩
      · show upd (upd (upd a1 f 205056) f 205058) b _ f = ly_ow [0, 1, 2, 3] 2
        rw [pk_un hfb, pk_us]
        exact ly_ow2
      · have hk2 : k < 2 := hk
        rcases (show k = 0 ∨ k = 1 by omega) with h | h
        · subst h
          exact ⟨at0.trans q2.1, at0.trans q2.2.1, at0.trans (hH k2 (by simp)).symm, at0.trans q2.2.2.2⟩
        · subst h
          exact ⟨pk_us.trans (e3.trans q3.1), pk_us.trans (e3.trans q3.2.1), pk_us.trans (hH k3 (by simp)).symm, pk_us.trans (e3.trans q3.2.2.2)⟩
    · have hq1 := hmn q h
      have hq2 : q.1 ≠ f := by
        intro z
        rcases h with h | h
        · exact hfA (z ▸ List.mem_map_of_mem h)
        · exact hfB (z ▸ List.mem_map_of_mem h)
      refine ly_nd_fr (c2 q (h.elim (fun z => List.mem_append_left _ z) (fun z => List.mem_append_right _ (List.mem_cons_of_mem _ z)))) (by rw [pk_un hq1, pk_un hq2, pk_un hq2]) (fun k hk => ⟨off (by omega) (by omega), off (by omega) (by omega), off (by omega) (by omega), off (by omega) (by omega)⟩) (fun y _ => ⟨rfl, rfl⟩)
  · have i1 : ly_ids (A ++ (b, [k0, k1, k2, k3].take 2) :: (f, [k0, k1, k2, k3].drop 2) :: B) = ly_ids A ++ b :: f :: ly_ids B := by rw [ly_ids_mid]; rfl
    rw [i1]
    rw [ly_ids_mid] at c3
    have d := List.nodup_append.mp c3
    have d2 := List.nodup_cons.mp d.2.1
    refine List.nodup_append.mpr ⟨d.1, List.nodup_cons.mpr ⟨?_, List.nodup_cons.mpr ⟨hfB, d2.2⟩⟩, ?_⟩
    · intro z
      rcases List.mem_cons.mp z with z | z
      · exact hfb z.symm
      · exact d2.1 z
    · intro y hy z hz e
      rcases List.mem_cons.mp hz with g | g
      · exact d.2.2 y hy z (by rw [g]; exact List.mem_cons_self) e
      · rcases List.mem_cons.mp g with g | g
        · exact hfA (g ▸ e ▸ hy)
        · exact d.2.2 y hy z (List.mem_cons_of_mem _ g) e
  · rw [ly_fl_mid] at c4 ⊢
    exact c4
  · rw [ly_fl_mid] at c5 ⊢
    exact c5
end
section
variable {t fc c l cu : Int32} {a1 a2 a3 a4 a5 a6 a7 a8 a9 a10 a11 a12 : Nat → Int32}
variable {V H : Nat → Int32}
theorem ly_insert28 {post : Int32 → St1 → Prop} {A B : List (Nat × List Nat)} {b s : Nat} {ks : List Nat} {x : Int32} (hc : ly_ch V H a1 a2 a3 a4 a5 a6 x (A ++ (b, ks) :: B)) (hl : ks.length < 4)
    (h9 : 9 ≤ s) (hs : s < 81) (hA : ∀ y, y ∈ ly_fl A → y < s) (hB : ∀ y, y ∈ ly_fl B → s < y) (hks : s ∉ ks)
    (hp : ∀ P Q p a1' e, ks = P ++ Q → e = 4 * b + p.getD P.length 0 → e < 488 →
      ly_ch (upd V s 0) (upd H s 0) a1' a2 (upd a3 e (nI s)) (upd a4 e 0) (upd a5 e 0) (upd a6 e (-1)) x (A ++ (b, P ++ s :: Q) :: B) →
      ly_np (upd V s 0) (upd H s 0) a1' (upd a3 e (nI s)) (upd a4 e 0) (upd a5 e 0) (upd a6 e (-1)) b (P ++ s :: Q) p →
      post (nI e) (t, fc, c, l, cu, a1', a2, upd a3 e (nI s), upd a4 e 0, upd a5 e 0, upd a6 e (-1), a7, a8, a9, a10, a11, a12)) :
    wX_insert_28 post (nI s) (nI b) t fc c l cu a1 a2 a3 a4 a5 a6 a7 a8 a9 a10 a11 a12 := by
  obtain ⟨p, hn⟩ : ly_nd V H a1 a3 a4 a5 a6 b ks := hc.2.1 (b, ks) (by simp)
  have hn2 := hn
  obtain ⟨hb, hk, hpm, ho, hne⟩ := hn2
  have hbd : ∀ y, y ∈ ks → y < 81 := fun y hy => (hc.2.2.2.2 y (by rw [ly_fl_mid]; simp [hy])).2
  have hso := hc.2.2.2.1
  rw [ly_fl_mid] at hso
  have hso3 : ks.Pairwise (· < ·) := (List.pairwise_append.mp (List.pairwise_append.mp hso).2.1).1
  unfold wX_insert_28
  refine ly_lesserIn hs hn hbd (fun P Q hks2 hP hQ => ly_sizeOfNode hb hpm ho hk ?_)
  have hPl : P.length ≤ ks.length := by rw [hks2]; simp
  have p4 := ly_pm_lt p hpm ks.length hl
  have cb : (nI b).toNatClampNeg = b := nI_clamp (by omega)
  have ce : (nI (4 * b + p.getD ks.length 0)).toNatClampNeg = 4 * b + p.getD ks.length 0 := nI_clamp (by omega)
  have ib : ∀ {X : Prop}, X → vp_in (nI b) 122 ∧ X := fun h => ⟨vp_in_nI hb (by omega), h⟩
  have ie : ∀ {X : Prop}, X → vp_in (nI (4 * b + p.getD ks.length 0)) 488 ∧ X := fun h => ⟨vp_in_nI (by omega) (by omega), h⟩
  rw [cb, ho]
  refine ib (nm_r (e' := nI (p.getD ks.length 0)) (ly_cell p hpm ks.length (by omega) ks.length (by omega)) (ib (nm_e (nm_e (nm_e (nm_e (nm_e (ib (nm_r (e' := upd a1 b (ly_ow (ly_mv p ks.length P.length) (ks.length + 1))) (by rw [ly_ins p hpm ks.length hl P.length (by omega) hPl]) (nm_r (e' := nI (4 * b + p.getD ks.length 0)) (by rw [show (4 : Int32) = nI 4 from rfl, pk_mul, nI_add]) ?_))))))))))
  rw [ce]
  refine ie (nm_e (ie (nm_e (ie (nm_e (ie (nm_e ?_)))))))
  have hQ2 : ∀ y, y ∈ Q → s < y := by
    cases Q with
    | nil => intro y hy; exact absurd hy List.not_mem_nil
    | cons z R =>
      intro y hy
      have h1 := hQ z R rfl
      have h2 : z ≠ s := fun e => hks (by rw [hks2, ← e]; simp)
      rw [hks2] at hso3
      rcases List.mem_cons.mp hy with h | h
      · omega
      · have := (List.pairwise_cons.mp (List.pairwise_append.mp hso3).2.1).1 y h
        omega
  subst hks2
  have hm := (ly_mvI p hpm (P ++ Q).length hl P.length (by omega) (by omega)).2.2.1
  have key := ly_ch_i (V' := upd V s 0) (H' := upd H s 0) (a1' := upd a1 b (ly_ow (ly_mv p (P ++ Q).length P.length) ((P ++ Q).length + 1))) (a3' := upd a3 (4 * b + p.getD (P ++ Q).length 0) (nI s)) (a4' := upd a4 (4 * b + p.getD (P ++ Q).length 0) 0) (a5' := upd a5 (4 * b + p.getD (P ++ Q).length 0) 0) (a6' := upd a6 (4 * b + p.getD (P ++ Q).length 0) (-1))
    hc hn hl h9 hs hA hB hP hQ2 (fun j hj => pk_un hj) pk_us (fun j hj => pk_un hj) (fun j hj => pk_un hj) (fun j hj => pk_un hj) (fun j hj => pk_un hj) (fun j hj => pk_un hj) (fun j hj => pk_un hj) ⟨pk_us, by rw [pk_us, pk_us], by rw [pk_us, pk_us], pk_us⟩
  exact hp P Q (ly_mv p (P ++ Q).length P.length) _ _ rfl (by rw [hm]) (by omega) key.1 key.2
theorem ly_ins_fin {post : Int32 → St1 → Prop} {CH A B : List (Nat × List Nat)} {b s : Nat} {ks fr : List Nat} (hCH : CH = A ++ (b, ks) :: B) (hc : ly_ch V H a1 a2 a3 a4 a5 a6 t CH) (hl : ks.length < 4)
    (h9 : 9 ≤ s) (hs : s < 81) (hA : ∀ y, y ∈ ly_fl A → y < s) (hB : ∀ y, y ∈ ly_fl B → s < y) (hks : s ∉ ks) (hfull : ∀ q, q ∈ A ∨ q ∈ B → q.2 ≠ []) (hfr : ly_fr fc a7 (ly_ids CH) fr)
    (hp : ∀ a1' a3' a4' a5' a6' A b P Q B p, ly_ch (upd V s 0) (upd H s 0) a1' a2 a3' a4' a5' a6' t (A ++ (b, P ++ s :: Q) :: B) → ly_np (upd V s 0) (upd H s 0) a1' a3' a4' a5' a6' b (P ++ s :: Q) p →
      ly_full (A ++ (b, P ++ s :: Q) :: B) → ly_fr fc a7 (ly_ids (A ++ (b, P ++ s :: Q) :: B)) fr → (∀ y, y ∈ ly_fl (A ++ (b, P ++ s :: Q) :: B) ↔ y = s ∨ y ∈ ly_fl CH) → (ly_fl (A ++ (b, P ++ s :: Q) :: B)).length = (ly_fl CH).length + 1 →
      post (nI (4 * b + p.getD P.length 0)) (t, fc, c, l, cu, a1', a2, a3', a4', a5', a6', a7, a8, a9, a10, a11, a12)) :
    wX_insert_28 post (nI s) (nI b) t fc c l cu a1 a2 a3 a4 a5 a6 a7 a8 a9 a10 a11 a12 := by
  subst hCH
  refine ly_insert28 hc hl h9 hs hA hB hks (fun P Q p a1' e e1 e2 _ k1 k2 => ?_)
  subst e1
  subst e2
  refine hp _ _ _ _ _ A b P Q B p k1 k2 (fun q hq => ?_) (by rw [ly_ids_mid] at hfr ⊢; exact hfr) (fun y => ?_) ?_
  · rcases List.mem_append.mp hq with h | h
    · exact hfull q (Or.inl h)
    · rcases List.mem_cons.mp h with h | h
      · subst h; simp
      · exact hfull q (Or.inr h)
  · rw [ly_fl_mid, ly_fl_mid]
    simp only [List.mem_append, List.mem_cons]
    constructor
    · rintro (h | (h | h | h) | h)
      · exact Or.inr (Or.inl h)
      · exact Or.inr (Or.inr (Or.inl (Or.inl h)))
      · exact Or.inl h
      · exact Or.inr (Or.inr (Or.inl (Or.inr h)))
      · exact Or.inr (Or.inr (Or.inr h))
    · rintro (h | h | (h | h) | h)
      · exact Or.inr (Or.inl (Or.inr (Or.inl h)))
      · exact Or.inl h
      · exact Or.inr (Or.inl (Or.inl h))
      · exact Or.inr (Or.inl (Or.inr (Or.inr h)))
      · exact Or.inr (Or.inr h)
  · rw [ly_fl_mid, ly_fl_mid]
    simp only [List.length_append, List.length_cons]
    omega
theorem ly_full_mid {A B T : List (Nat × List Nat)} {b b0 : Nat} {ks k0 : List Nat} (h : (b0, k0) :: T = A ++ (b, ks) :: B) (hf : ly_full T) (hk : k0 = [] → T = []) : ∀ q, q ∈ A ∨ q ∈ B → q.2 ≠ [] := by
  intro q hq
  cases A with
  | nil =>
    have h2 : (b0, k0) :: T = (b, ks) :: B := h
    injection h2 with _ h3
    rcases hq with g | g
    · exact absurd g List.not_mem_nil
    · exact hf q (h3 ▸ g)
  | cons r A =>
    have h2 : (b0, k0) :: T = r :: (A ++ (b, ks) :: B) := h
    injection h2 with h3 h4
    rcases hq with g | g
    · rcases List.mem_cons.mp g with g | g
      · subst g
        rw [← h3]
        intro z
        rw [hk z] at h4
        simp at h4
      · exact hf q (by rw [h4]; simp [g])
    · exact hf q (by rw [h4]; simp [g])
theorem ly_insert {post : Int32 → St1 → Prop} {T : List (Nat × List Nat)} {b0 s : Nat} {k0 fr : List Nat} (h9 : 9 ≤ s) (hs : s < 81) (hc : ly_ch V H a1 a2 a3 a4 a5 a6 t ((b0, k0) :: T)) (hfT : ly_full T) (hk0 : k0 = [] → T = [])
    (hnot : s ∉ ly_fl ((b0, k0) :: T)) (hH : ∀ y, y ∈ ly_fl ((b0, k0) :: T) → H y = 1) (hfr : ly_fr fc a7 (ly_ids ((b0, k0) :: T)) fr) (hfn : 0 < fr.length)
    (hp : ∀ fc' a1' a2' a3' a4' a5' a6' fr' A b P Q B p, ly_ch (upd V s 0) (upd H s 0) a1' a2' a3' a4' a5' a6' t (A ++ (b, P ++ s :: Q) :: B) → ly_np (upd V s 0) (upd H s 0) a1' a3' a4' a5' a6' b (P ++ s :: Q) p →
      ly_full (A ++ (b, P ++ s :: Q) :: B) → ly_fr fc' a7 (ly_ids (A ++ (b, P ++ s :: Q) :: B)) fr' → (∀ y, y ∈ ly_fl (A ++ (b, P ++ s :: Q) :: B) ↔ y = s ∨ y ∈ ly_fl ((b0, k0) :: T)) → (ly_fl (A ++ (b, P ++ s :: Q) :: B)).length = (ly_fl ((b0, k0) :: T)).length + 1 →
      post (nI (4 * b + p.getD P.length 0)) (t, fc', c, l, cu, a1', a2', a3', a4', a5', a6', a7, a8, a9, a10, a11, a12)) :
    wpX_insert post (t, fc, c, l, cu, a1, a2, a3, a4, a5, a6, a7, a8, a9, a10, a11, a12) (nI b0) (nI s) := by
  unfold wpX_insert
  refine ly_nodeFor hs hc hfT (fun A b ks B hch hA hB _ => ?_)
  have hin : (b, ks) ∈ (b0, k0) :: T := by rw [hch]; simp
  obtain ⟨p, hb, hk, hpm, ho, hne⟩ : ly_nd V H a1 a3 a4 a5 a6 b ks := hc.2.1 (b, ks) hin
  have hks : s ∉ ks := fun z => hnot (by rw [hch, ly_fl_mid]; simp [z])
  have hfm := ly_full_mid hch hfT hk0
  refine ly_sizeOfNode hb hpm ho hk (pk_eq ks.length 4 (fun g => ?_) (fun g => ?_))
  · obtain ⟨F, f, hF⟩ : ∃ F f, fr = F ++ [f] := by
      rcases List.eq_nil_or_concat fr with h | ⟨F, f, h⟩
      · rw [h] at hfn; exact absurd hfn (by simp)
      · exact ⟨F, f, by rw [h, List.concat_eq_append]⟩
    subst hF
    obtain ⟨f1, f2, f3, f4, f5⟩ := hfr
    have fl1 : (F ++ [f]).length = F.length + 1 := by simp
    rw [fl1] at f1 f2 f5
    subst f1
    have hff := f4 f (by simp)
    have hfi : f ∉ ly_ids (A ++ (b, ks) :: B) := by rw [← hch]; exact hff.2
    have hD : (ly_ids ((b0, k0) :: T)).length = (ly_ids A).length + 1 + (ly_ids B).length := by
      rw [hch, ly_ids_mid]; simp; omega
    have hc1 := hc
    rw [hch] at hc1
    have hflk : ly_fl (A ++ (b, ks.take 2) :: (f, ks.drop 2) :: B) = ly_fl ((b0, k0) :: T) := by
      rw [hch, ly_fl_mid, ly_fl_mid]
      show ly_fl A ++ (ks.take 2 ++ (ks.drop 2 ++ ly_fl B)) = _
      rw [← List.append_assoc (ks.take 2), List.take_append_drop]
    refine ly_split hc1 g (fun y hy => hH y (by rw [hch, ly_fl_mid]; simp [hy])) (by omega) (by have := f2 F.length (by omega); rw [ly_gC] at this; exact this) hff.1 hfi (fun a1' a2' a3' a4' a5' a6' hc2 => ?_)
    have hfr2 : ly_fr (nI F.length) a7 (ly_ids (A ++ (b, ks.take 2) :: (f, ks.drop 2) :: B)) F := by
      have i1 : ly_ids (A ++ (b, ks.take 2) :: (f, ks.drop 2) :: B) = ly_ids A ++ b :: f :: ly_ids B := by rw [ly_ids_mid]; rfl
      have nd := List.nodup_append.mp f3
      refine ⟨rfl, fun j hj => ?_, nd.1, fun y hy => ⟨(f4 y (by simp [hy])).1, fun z => ?_⟩, ?_⟩
      · have := f2 j (by omega)
        rw [ly_gA hj] at this
        exact this
      · have hy2 := (f4 y (by simp [hy])).2
        rw [hch, ly_ids_mid] at hy2
        rw [i1] at z
        simp only [List.mem_append, List.mem_cons, not_or] at z hy2
        rcases z with z | z | z | z
        · exact hy2.1 z
        · exact hy2.2.1 z
        · exact nd.2.2 y hy f (by simp) z
        · exact hy2.2.2 z
      · rw [i1]; simp; omega
    have hfull2 : ly_full ((f, ks.drop 2) :: B) := by
      intro q hq
      rcases List.mem_cons.mp hq with h | h
      · subst h
        intro z
        have : (ks.drop 2).length = 0 := by
          have z2 : ks.drop 2 = [] := z
          rw [z2]; rfl
        rw [List.length_drop] at this
        omega
      · exact hfm q (Or.inr h)
    refine ly_nodeFor hs (ly_ch_suf hc2) hfull2 (fun A2 b2 k2 B2 hch2 hA2 hB2 hA22 => ?_)
    have hk2 : k2.length = 2 ∧ (∀ y, y ∈ k2 → y ∈ ks) ∧ (∀ q, q ∈ A2 ∨ q ∈ B2 → q.2 ≠ []) := by
      have t2 : (ks.take 2).length = 2 := by rw [List.length_take]; omega
      have d2 : (ks.drop 2).length = 2 := by rw [List.length_drop]; omega
      cases A2 with
      | nil =>
        have h2 : (b, ks.take 2) :: (f, ks.drop 2) :: B = (b2, k2) :: B2 := hch2
        injection h2 with h3 h4
        injection h3 with _ h5
        rw [← h5, ← h4]
        exact ⟨t2, fun y hy => List.mem_of_mem_take hy, fun q hq => hq.elim (fun z => absurd z List.not_mem_nil) (fun z => hfull2 q z)⟩
      | cons r A3 =>
        have h2 : (b, ks.take 2) :: (f, ks.drop 2) :: B = r :: (A3 ++ (b2, k2) :: B2) := hch2
        injection h2 with h3 h4
        have hr : r.2 ≠ [] := by
          rw [← h3]
          intro z
          have z2 : ks.take 2 = [] := z
          rw [z2] at t2
          exact absurd t2 (by decide)
        cases A3 with
        | nil =>
          have h5 : (f, ks.drop 2) :: B = (b2, k2) :: B2 := h4
          injection h5 with h6 h7
          injection h6 with _ h8
          rw [← h8, ← h7]
          refine ⟨d2, fun y hy => List.mem_of_mem_drop hy, fun q hq => ?_⟩
          rcases hq with z | z
          · rw [List.mem_singleton.mp z]; exact hr
          · exact hfm q (Or.inr z)
        | cons r2 A4 =>
          have h5 : (f, ks.drop 2) :: B = r2 :: (A4 ++ (b2, k2) :: B2) := h4
          injection h5 with _ h7
          obtain ⟨y, hy, hy2⟩ := hA22 (by simp)
          have := hB y (by rw [h7, ly_fl_mid]; simp [hy])
          omega
    refine ly_ins_fin (CH := A ++ (b, ks.take 2) :: (f, ks.drop 2) :: B) (A := A ++ A2) (by rw [hch2, List.append_assoc]) hc2 (by omega) h9 hs ?_ hB2 (fun z => hks (hk2.2.1 s z)) ?_ hfr2 ?_
    · intro y hy
      rw [ly_fl_app] at hy
      rcases List.mem_append.mp hy with h | h
      · exact hA y h
      · exact hA2 y h
    · intro q hq
      rcases hq with h | h
      · rcases List.mem_append.mp h with h | h
        · exact hfm q (Or.inl h)
        · exact hk2.2.2 q (Or.inl h)
      · exact hk2.2.2 q (Or.inr h)
    · rw [hflk]
      exact fun a1'' a3'' a4'' a5'' a6'' A b P Q B p k1 k2 k3 k4 k5 k6 => hp _ _ _ _ _ _ _ F A b P Q B p k1 k2 k3 k4 k5 k6
  · exact ly_ins_fin hch hc (by omega) h9 hs hA hB hks hfm hfr (fun a1'' a3'' a4'' a5'' a6'' A b P Q B p k1 k2 k3 k4 k5 k6 => hp _ _ _ _ _ _ _ fr A b P Q B p k1 k2 k3 k4 k5 k6)
theorem ly_makePath {post : Int32 → St1 → Prop} {ch : List (Nat × List Nat)} {s : Nat} {fr : List Nat} (h9 : 9 ≤ s) (hs : s < 81) (hc : ly_ch V H a1 a2 a3 a4 a5 a6 t ch) (hf : ly_full ch)
    (hnot : s ∉ ly_fl ch) (hH : ∀ y, y ∈ ly_fl ch → H y = 1) (hfr : ly_fr fc a7 (ly_ids ch) fr) (hfn : 1 < fr.length)
    (hp : ∀ t' fc' a1' a2' a3' a4' a5' a6' fr' A b P Q B p, ly_ch (upd V s 0) (upd H s 0) a1' a2' a3' a4' a5' a6' t' (A ++ (b, P ++ s :: Q) :: B) → ly_np (upd V s 0) (upd H s 0) a1' a3' a4' a5' a6' b (P ++ s :: Q) p →
      ly_full (A ++ (b, P ++ s :: Q) :: B) → ly_fr fc' a7 (ly_ids (A ++ (b, P ++ s :: Q) :: B)) fr' → (∀ y, y ∈ ly_fl (A ++ (b, P ++ s :: Q) :: B) ↔ y = s ∨ y ∈ ly_fl ch) → (ly_fl (A ++ (b, P ++ s :: Q) :: B)).length = (ly_fl ch).length + 1 →
      post (nI (4 * b + p.getD P.length 0)) (t', fc', c, l, cu, a1', a2', a3', a4', a5', a6', a7, a8, a9, a10, a11, a12)) :
    wpX_makePath post (t, fc, c, l, cu, a1, a2, a3, a4, a5, a6, a7, a8, a9, a10, a11, a12) (nI (ly_wd s)) := by
  unfold wpX_makePath
  refine ly_layersOf h9 hs ⟨2, br_f (by decide) (ly_sliceOf h9 hs (br_t rfl (ly_entryFor hs hc hf (fun _ => br_t rfl ?_) (fun A b P Q B p hch _ => absurd (show s ∈ ly_fl ch by rw [hch, ly_fl_mid]; simp) hnot))))⟩
  cases ch with
  | nil =>
    have ht : t = -1 := hc.1
    obtain ⟨F, f, hF⟩ : ∃ F f, fr = F ++ [f] := by
      rcases List.eq_nil_or_concat fr with h | ⟨F, f, h⟩
      · rw [h] at hfn; exact absurd hfn (by simp)
      · exact ⟨F, f, by rw [h, List.concat_eq_append]⟩
    subst hF
    obtain ⟨f1, f2, f3, f4, f5⟩ := hfr
    have fl1 : (F ++ [f]).length = F.length + 1 := by simp
    rw [fl1] at f1 f2 f5 hfn
    subst f1
    have hff := f4 f (by simp)
    have nd := List.nodup_append.mp f3
    have f5' : F.length + 1 = 122 := by
      have : (ly_ids []).length = 0 := rfl
      omega
    refine br_t ht (ly_takeNode (n := F.length) (by omega) (by have := f2 F.length (by omega); rw [ly_gC] at this; exact this) hff.1 (br_t rfl ?_))
    refine ly_insert (V := V) (H := H) (T := []) (k0 := []) (fr := F) h9 hs ⟨⟨rfl, pk_us⟩, fun q hq => ?_, ?_, List.Pairwise.nil, fun y hy => absurd hy List.not_mem_nil⟩ (fun q hq => absurd hq List.not_mem_nil) (fun _ => rfl) List.not_mem_nil (fun y hy => absurd hy List.not_mem_nil) ?_ (by omega) ?_
    · rw [List.mem_singleton.mp hq]
      exact ⟨[0, 1, 2, 3], hff.1, by simp, ly_id, by show upd a1 f 205056 f = _; rw [pk_us]; exact ly_ow0, fun k hk => absurd hk (by simp)⟩
    · show [f].Nodup
      simp
    · refine ⟨rfl, fun j hj => ?_, nd.1, fun y hy => ⟨(f4 y (by simp [hy])).1, fun z => ?_⟩, ?_⟩
      · have := f2 j (by omega)
        rw [ly_gA hj] at this
        exact this
      · have z2 : y ∈ [f] := z
        exact nd.2.2 y hy f (by simp) (List.mem_singleton.mp z2)
      · show 1 + F.length = 122
        omega
    · intro fc' a1' a2' a3' a4' a5' a6' fr' A b P Q B p k1 k2 k3 k4 k5 k6
      exact nm_e (br_t (by decide) (hp _ _ _ _ _ _ _ _ fr' A b P Q B p k1 k2 k3 k4 k5 k6))
  | cons q T =>
    obtain ⟨b0, k0⟩ := q
    have ht : t = nI b0 := hc.1.1
    have hb0 : b0 < 122 := (hc.2.1 (b0, k0) (List.mem_cons_self)).elim (fun p h => h.1)
    have hk0 : k0 ≠ [] := hf (b0, k0) (List.mem_cons_self)
    have hne : ¬ t = -1 := by rw [ht]; exact ly_m1 (by omega)
    refine br_f hne ?_
    have main := ly_insert (post := fun r u => match u with | (t', fc', c', l', cu', a1', a2', a3', a4', a5', a6', a7', a8', a9', a10', a11', a12') => ∀ x4 : Int32, x4 = 0 + 1 → wX_makePath_10 post (nI (ly_wd s)) 1 1 r x4 t' fc' c' l' cu' a1' a2' a3' a4' a5' a6' a7' a8' a9' a10' a11' a12') (l := l) (c := c) (cu := cu) (a8 := a8) (a9 := a9) (a10 := a10) (a11 := a11) (a12 := a12)
      h9 hs hc (fun q hq => hf q (List.mem_cons_of_mem _ hq)) (fun z => absurd z hk0) hnot hH hfr (by omega)
      (fun fc' a1' a2' a3' a4' a5' a6' fr' A b P Q B p k1 k2 k3 k4 k5 k6 => nm_e (br_t (by decide) (hp _ _ _ _ _ _ _ _ fr' A b P Q B p k1 k2 k3 k4 k5 k6)))
    rw [← ht] at main
    exact main
/-! the whole state against the set m of its slices and their values V -/
def ly_K (m : Nat → Bool) : List Nat := (List.range 81).filter m
def ly_ls (K : List Nat) (V : Nat → Int32) (l : Int32) (a9 a10 : Nat → Int32) : Prop := l = nI K.length ∧ ∀ j, j < K.length → a9 j = nI (ly_wd (K.getD j 0)) ∧ a10 j = V (K.getD j 0)
def ly_ok (m : Nat → Bool) (V : Nat → Int32) (u : St1) : Prop := match u with
  | (t, fc, c, l, cu, a1, a2, a3, a4, a5, a6, a7, a8, a9, a10, a11, a12) => ∃ (ch : List (Nat × List Nat)) (fr : List Nat), ly_ch V (fun _ => 1) a1 a2 a3 a4 a5 a6 t ch ∧ ly_full ch ∧ ly_fr fc a7 (ly_ids ch) fr ∧ ly_fl ch = ly_K m ∧ c = nI (ly_K m).length ∧ (ly_K m).length ≤ 40 ∧ (cu = 0 ∨ (cu = 1 ∧ ly_ls (ly_K m) V l a9 a10))
def ly_set (m : Nat → Bool) (s : Nat) (v : Bool) : Nat → Bool := fun y => if y = s then v else m y
theorem ly_mK {m : Nat → Bool} {y : Nat} : y ∈ ly_K m ↔ y < 81 ∧ m y = true := by
  unfold ly_K
  rw [List.mem_filter, List.mem_range]
theorem ly_K_pw (m : Nat → Bool) : (ly_K m).Pairwise (· < ·) := List.Pairwise.filter m List.pairwise_lt_range
theorem ly_uniq : ∀ {K L : List Nat}, K.Pairwise (· < ·) → L.Pairwise (· < ·) → (∀ y, y ∈ K ↔ y ∈ L) → K = L := by
  intro K
  induction K with
  | nil =>
    intro L _ _ h
    cases L with
    | nil => rfl
    | cons z L => exact absurd ((h z).mpr (List.mem_cons_self)) List.not_mem_nil
  | cons x K ih =>
    intro L hK hL h
    cases L with
    | nil => exact absurd ((h x).mp (List.mem_cons_self)) List.not_mem_nil
    | cons z L =>
      have hK2 := List.pairwise_cons.mp hK
      have hL2 := List.pairwise_cons.mp hL
      have e : x = z := by
        rcases List.mem_cons.mp ((h x).mp (List.mem_cons_self)) with g | g
        · exact g
        · rcases List.mem_cons.mp ((h z).mpr (List.mem_cons_self)) with g2 | g2
          · exact g2.symm
          · have := hL2.1 x g
            have := hK2.1 z g2
            omega
      subst e
      rw [ih hK2.2 hL2.2 (fun y => ?_)]
      constructor
      · intro hy
        rcases List.mem_cons.mp ((h y).mp (List.mem_cons_of_mem _ hy)) with g | g
        · have := hK2.1 y hy; omega
        · exact g
      · intro hy
        rcases List.mem_cons.mp ((h y).mpr (List.mem_cons_of_mem _ hy)) with g | g
        · have := hL2.1 y hy; omega
        · exact g
theorem ly_full_len {ch : List (Nat × List Nat)} (h : ly_full ch) : (ly_ids ch).length ≤ (ly_fl ch).length := by
  induction ch with
  | nil => exact Nat.le_refl _
  | cons q T ih =>
    have h1 := ih (fun r hr => h r (List.mem_cons_of_mem _ hr))
    have h2 : q.2 ≠ [] := h q (List.mem_cons_self)
    have h3 : 0 < q.2.length := List.length_pos_iff.mpr h2
    show (ly_ids T).length + 1 ≤ (q.2 ++ ly_fl T).length
    rw [List.length_append]
    omega
theorem ly_put {post : Int32 → St1 → Prop} {m : Nat → Bool} {s : Nat} {v : Int32} (hk : ly_ok m V (t, fc, c, l, cu, a1, a2, a3, a4, a5, a6, a7, a8, a9, a10, a11, a12)) (h9 : 9 ≤ s) (hs : s < 81)
    (h0 : m s = true → ∀ u, ly_ok m (upd V s v) u → post 0 u)
    (h1 : m s = false → (ly_K m).length < 40 → ∀ u, ly_ok (ly_set m s true) (upd V s v) u → (ly_K (ly_set m s true)).length = (ly_K m).length + 1 → post 1 u)
    (h2 : m s = false → (ly_K m).length = 40 → post (-2) (t, fc, c, l, cu, a1, a2, a3, a4, a5, a6, a7, a8, a9, a10, a11, a12)) : wpX_put post (t, fc, c, l, cu, a1, a2, a3, a4, a5, a6, a7, a8, a9, a10, a11, a12) (nI (ly_wd s)) v := by
  obtain ⟨ch, fr, hc, hf, hfr, hfl, hcn, h40, hcu⟩ := hk
  have hmem : s ∈ ly_fl ch ↔ m s = true := by
    rw [hfl, ly_mK]
    exact ⟨fun z => z.2, fun z => ⟨hs, z⟩⟩
  have hfrl : 1 < fr.length := by
    have := ly_full_len hf
    rw [hfl] at this
    have := hfr.2.2.2.2
    omega
  unfold wpX_put
  refine ly_isWord_wd h9 hs (br_f (by decide) (ly_find h9 hs hc hf (fun g => br_t (by decide) ?_) (fun A b P Q B p hch hn => ?_)))
  · have hm : m s = false := by
      cases hms : m s with
      | false => rfl
      | true => exact absurd (hmem.mpr hms) g
    refine pk_eq (ly_K m).length 40 (fun e => h2 hm e) (fun e => ?_) (hx := hcn)
    refine ly_makePath h9 hs hc hf g (fun y _ => rfl) hfr hfrl (fun t' fc' a1' a2' a3' a4' a5' a6' fr' A b P Q B p k1 k2 k3 k4 k5 k6 => ?_)
    have hfo := ly_found k2
    have ce : (nI (4 * b + p.getD P.length 0)).toNatClampNeg = 4 * b + p.getD P.length 0 := nI_clamp (by omega)
    refine ⟨vp_in_nI hfo.1 (by omega), nm_e ⟨vp_in_nI hfo.1 (by omega), nm_e (nm_r (e' := nI ((ly_K m).length + 1)) (by rw [hcn, nI_1]) ?_)⟩⟩
    rw [ce]
    have kw := ly_ch_w (V' := upd V s v) (H' := fun _ => 1) (a4' := upd a4' (4 * b + p.getD P.length 0) v) (a5' := upd a5' (4 * b + p.getD P.length 0) 1) k1 k2 (fun j hj => pk_un hj) (fun j hj => pk_un hj) (fun y hy => by rw [pk_un hy, pk_un hy]) (fun y hy => by rw [pk_un hy]) (by rw [pk_us, pk_us]) pk_us
    have hK : ly_fl (A ++ (b, P ++ s :: Q) :: B) = ly_K (ly_set m s true) := by
      refine ly_uniq k1.2.2.2.1 (ly_K_pw _) (fun y => ?_)
      rw [k5 y, hfl, ly_mK, ly_mK]
      unfold ly_set
      by_cases e : y = s
      · rw [if_pos e]; exact ⟨fun _ => ⟨by omega, rfl⟩, fun _ => Or.inl e⟩
      · rw [if_neg e]; exact ⟨fun z => z.elim (fun z => absurd z e) (fun z => z), Or.inr⟩
    have hlen : (ly_K (ly_set m s true)).length = (ly_K m).length + 1 := by rw [← hK, k6, hfl]
    exact h1 hm (by omega) _ ⟨_, fr', kw.1, k3, k4, hK, by rw [hlen], by omega, Or.inl rfl⟩ hlen
  · have hm : m s = true := hmem.mp (by rw [hch, ly_fl_mid]; simp)
    have hfo := ly_found hn
    have ce : (nI (4 * b + p.getD P.length 0)).toNatClampNeg = 4 * b + p.getD P.length 0 := nI_clamp (by omega)
    refine br_f (nI_pos (by omega)) ⟨vp_in_nI hfo.1 (by omega), br_f ?_ ⟨vp_in_nI hfo.1 (by omega), nm_e ?_⟩⟩
    · rw [ce, hfo.2.1.2.2.1]; exact (by decide : ¬ (1 : Int32) = 0)
    · rw [ce]
      rw [hch] at hc
      have kw := ly_ch_w (V' := upd V s v) (H' := fun _ => 1) (a4' := upd a4 (4 * b + p.getD P.length 0) v) (a5' := a5) hc hn (fun j hj => pk_un hj) (fun j hj => rfl) (fun y hy => by rw [pk_un hy]) (fun y hy => rfl) (by rw [pk_us, pk_us]) hfo.2.1.2.2.1
      rw [hch] at hf hfr hfl
      exact h0 hm _ ⟨_, fr, kw.1, hf, hfr, hfl, hcn, h40, Or.inl rfl⟩
end
section
variable {t fc c l cu : Int32} {a1 a2 a3 a4 a5 a6 a7 a8 a9 a10 a11 a12 : Nat → Int32}
variable {V H V' H' a1' : Nat → Int32}
/-- values and marks of slices outside the chain don't matter -/
theorem ly_ch_VH {ch : List (Nat × List Nat)} {x : Int32} (h : ly_ch V H a1 a2 a3 a4 a5 a6 x ch) (e : ∀ y, y ∈ ly_fl ch → V' y = V y ∧ H' y = H y) : ly_ch V' H' a1 a2 a3 a4 a5 a6 x ch := by
  obtain ⟨c1, c2, c3, c4, c5⟩ := h
  exact ⟨c1, fun q hq => ly_nd_fr (c2 q hq) rfl (fun k _ => ⟨rfl, rfl, rfl, rfl⟩) (fun y hy => e y (ly_in_fl hq y hy)), c3, c4, c5⟩
/-- a slice taken out of its node's order -/
theorem ly_ch_d {A B : List (Nat × List Nat)} {b s : Nat} {P Q p : List Nat} {x : Int32} (hc : ly_ch V H a1 a2 a3 a4 a5 a6 x (A ++ (b, P ++ s :: Q) :: B))
    (hn : ly_np V H a1 a3 a4 a5 a6 b (P ++ s :: Q) p) (h1 : ∀ j, j ≠ b → a1' j = a1 j) (h1e : a1' b = ly_ow (ly_mv p P.length (P ++ Q).length) (P ++ Q).length) :
    ly_ch V H a1' a2 a3 a4 a5 a6 x (A ++ (b, P ++ Q) :: B) := by
  obtain ⟨c1, c2, c3, c4, c5⟩ := hc
  have hne := ly_mid_ne c3
  obtain ⟨hb, hk, hpm, ho, hn2⟩ := hn
  have hlen : (P ++ Q).length = P.length + Q.length := List.length_append
  have hlen2 : (P ++ s :: Q).length = P.length + Q.length + 1 := by simp; omega
  obtain ⟨m1, m2, m3⟩ := ly_mvD p hpm (P ++ Q).length (by omega) P.length (by omega) (by omega)
  refine ⟨by rw [ly_ids_mid] at c1 ⊢; exact c1, fun q hq => ?_, by rw [ly_ids_mid] at c3 ⊢; exact c3, ?_, fun y hy => ?_⟩
  · have other : (q ∈ A ∨ q ∈ B) → ly_nd V H a1' a3 a4 a5 a6 q.1 q.2 := by
      intro h
      exact ly_nd_fr (c2 q (h.elim (fun z => List.mem_append_left _ z) (fun z => List.mem_append_right _ (List.mem_cons_of_mem _ z)))) (h1 _ (hne q h)) (fun k _ => ⟨rfl, rfl, rfl, rfl⟩) (fun y _ => ⟨rfl, rfl⟩)
    rcases List.mem_append.mp hq with h | h
    · exact other (Or.inl h)
    · rcases List.mem_cons.mp h with h | h
      · subst h
        refine ⟨_, hb, by show (P ++ Q).length ≤ 4; omega, m1, h1e, fun k hkl => ?_⟩
        have hkl2 : k < (P ++ Q).length := hkl
        show ly_ne V H a3 a4 a5 a6 (4 * b + (ly_mv p P.length (P ++ Q).length).getD k 0) ((P ++ Q).getD k 0)
        rcases Nat.lt_or_ge k P.length with g | g
        · have := hn2 k (by omega)
          rw [ly_gA g] at this
          rw [m2 k g, ly_gA g]
          exact this
        · obtain ⟨j, rfl⟩ : ∃ j, k = P.length + j := ⟨k - P.length, by omega⟩
          have h5 := hn2 (P.length + (j + 1)) (by omega)
          rw [ly_gB] at h5
          rw [m3 (P.length + j) hkl2 (by omega), ly_gB]
          exact h5
      · exact other (Or.inr h)
  · rw [ly_fl_mid] at c4 ⊢
    simp only [List.pairwise_append, List.pairwise_cons, List.mem_append, List.mem_cons] at c4 ⊢
    obtain ⟨d1, ⟨⟨d2, ⟨d8, d3⟩, d4⟩, d5, d6⟩, d7⟩ := c4
    refine ⟨d1, ⟨⟨d2, d3, fun y hy z hz => d4 y hy z (Or.inr hz)⟩, d5, ?_⟩, ?_⟩
    · intro y hy z hz
      rcases hy with h | h
      · exact d6 y (Or.inl h) z hz
      · exact d6 y (Or.inr (Or.inr h)) z hz
    · intro y hy z hz
      rcases hz with (h | h) | h
      · exact d7 y hy z (Or.inl (Or.inl h))
      · exact d7 y hy z (Or.inl (Or.inr (Or.inr h)))
      · exact d7 y hy z (Or.inr h)
  · rw [ly_fl_mid] at hy c5
    simp only [List.mem_append, List.mem_cons] at hy c5
    rcases hy with h | (h | h) | h
    · exact c5 y (Or.inl h)
    · exact c5 y (Or.inr (Or.inl (Or.inl h)))
    · exact c5 y (Or.inr (Or.inl (Or.inr (Or.inr h))))
    · exact c5 y (Or.inr (Or.inr h))
theorem ly_unlink41 {post : St1 → Prop} {b : Nat} (hb : b < 122) : ∀ (A2 : List Nat) (y : Nat) (B : List Nat) (n : Nat), A2.length < n → (∀ z, z ∈ y :: A2 → z < 122) → b ∉ A2 → ly_lk a2 (nI y) (y :: (A2 ++ b :: B)) →
    (∀ A1 g, y :: A2 = A1 ++ [g] → wX_unlink_75 post (nI b) (nI g) t fc c l cu a1 a2 a3 a4 a5 a6 a7 a8 a9 a10 a11 a12) → wX_unlink_41 post (nI b) t fc c l cu a1 a2 a3 a4 a5 a6 a7 a8 a9 a10 a11 a12 n (nI y) := by
  intro A2
  induction A2 with
  | nil =>
    intro y B n hn hz _ hl hp
    obtain ⟨m, rfl⟩ : ∃ m, n = m + 1 := ⟨n - 1, by simp at hn; omega⟩
    have hy := hz y (List.mem_cons_self)
    have e : a2 y = nI b := hl.2.1
    have cy : (nI y).toNatClampNeg = y := nI_clamp (by omega)
    refine ⟨vp_in_nI hy (by omega), ?_⟩
    rw [cy, e]
    exact br_f (ly_m1 (by omega)) ⟨vp_in_nI hy (by omega), br_t rfl (hp [] y rfl)⟩
  | cons y2 A3 ih =>
    intro y B n hn hz hbn hl hp
    obtain ⟨m, rfl⟩ : ∃ m, n = m + 1 := ⟨n - 1, by simp at hn; omega⟩
    have hy := hz y (List.mem_cons_self)
    have hy2 := hz y2 (by simp)
    have e : a2 y = nI y2 := hl.2.1
    have cy : (nI y).toNatClampNeg = y := nI_clamp (by omega)
    refine ⟨vp_in_nI hy (by omega), ?_⟩
    rw [cy, e]
    have hne : ¬ nI y2 = nI b := by
      rw [nI_eq (by omega) (by omega)]
      intro z; exact hbn (by simp [z])
    refine br_f (ly_m1 (by omega)) ⟨vp_in_nI hy (by omega), br_f hne ⟨vp_in_nI hy (by omega), nm_e ?_⟩⟩
    refine ih y2 B m (by simp at hn; omega) (fun z h => hz z (List.mem_cons_of_mem _ h)) (fun z => hbn (List.mem_cons_of_mem _ z)) ?_ (fun A1 g h => hp (y :: A1) g (by rw [h]; rfl))
    have h3 := hl.2
    rw [e] at h3
    exact h3
theorem ly_unlink {post : St1 → Prop} {A B : List (Nat × List Nat)} {b : Nat} {fr : List Nat} (hc : ly_ch V H a1 a2 a3 a4 a5 a6 t (A ++ (b, []) :: B)) (hfr : ly_fr fc a7 (ly_ids (A ++ (b, []) :: B)) fr)
    (hp : ∀ t' fc' a2' a7' fr', ly_ch V H a1 a2' a3 a4 a5 a6 t' (A ++ B) → ly_fr fc' a7' (ly_ids (A ++ B)) fr' → post (t', fc', c, l, cu, a1, a2', a3, a4, a5, a6, a7', a8, a9, a10, a11, a12)) :
    wpX_unlink post (t, fc, c, l, cu, a1, a2, a3, a4, a5, a6, a7, a8, a9, a10, a11, a12) (-1) (nI b) := by
  obtain ⟨c1, c2, c3, c4, c5⟩ := hc
  have hb : b < 122 := (c2 (b, []) (by simp)).elim (fun p h => h.1)
  have cb : (nI b).toNatClampNeg = b := nI_clamp (by omega)
  have hids : ly_ids (A ++ B) = ly_ids A ++ ly_ids B := List.map_append
  have hfl : ly_fl (A ++ (b, []) :: B) = ly_fl (A ++ B) := by rw [ly_fl_mid, ly_fl_app]; rfl
  rw [hfl] at c4 c5
  rw [ly_ids_mid] at c1 c3 hfr
  have d := List.nodup_append.mp c3
  have d2 := List.nodup_cons.mp d.2.1
  have hbA : b ∉ ly_ids A := fun z => d.2.2 b z b (List.mem_cons_self) rfl
  obtain ⟨f1, f2, f3, f4, f5⟩ := hfr
  simp only [List.length_append, List.length_cons] at f5
  have cfr : (nI fr.length).toNatClampNeg = fr.length := nI_clamp (by omega)
  have hbf : b ∉ fr := fun z => (f4 b z).2 (by simp)
  subst f1
  have hfr2 : ly_fr (nI (fr.length + 1)) (upd a7 fr.length (nI b)) (ly_ids (A ++ B)) (fr ++ [b]) := by
    refine ⟨by simp, fun j hj => ?_, ?_, fun y hy => ?_, by rw [hids]; simp; omega⟩
    · rw [List.length_append] at hj
      have hj2 : j < fr.length + 1 := hj
      by_cases e : j = fr.length
      · subst e
        rw [pk_us, ly_gC]
      · rw [pk_un e, ly_gA (by omega)]
        exact f2 j (by omega)
    · refine List.nodup_append.mpr ⟨f3, by simp, fun y hy z hz e => ?_⟩
      rw [List.mem_singleton.mp hz] at e
      exact hbf (e ▸ hy)
    · rw [hids]
      rcases List.mem_append.mp hy with h | h
      · have h2 := f4 y h
        refine ⟨h2.1, fun z => h2.2 ?_⟩
        rcases List.mem_append.mp z with z | z
        · simp [z]
        · simp [z]
      · rw [List.mem_singleton.mp h]
        refine ⟨hb, fun z => ?_⟩
        rcases List.mem_append.mp z with z | z
        · exact hbA z
        · exact d2.1 z
  have give : ∀ (t' : Int32) (a2' : Nat → Int32), ly_lk a2' t' (ly_ids A ++ ly_ids B) → wX_unlink_88 post (nI b) t' (nI fr.length) c l cu a1 a2' a3 a4 a5 a6 a7 a8 a9 a10 a11 a12 := by
    intro t' a2' hl
    refine ⟨vp_in_nI (by omega) (by omega), nm_r (e' := upd a7 fr.length (nI b)) (by rw [cfr]) (nm_r (nI_1 fr.length) ?_)⟩
    refine hp t' (nI (fr.length + 1)) a2' (upd a7 fr.length (nI b)) (fr ++ [b]) ⟨by rw [hids]; exact hl, fun q hq => c2 q ?_, ?_, c4, c5⟩ hfr2
    · rcases List.mem_append.mp hq with h | h
      · exact List.mem_append_left _ h
      · exact List.mem_append_right _ (List.mem_cons_of_mem _ h)
    · rw [hids]
      exact List.nodup_append.mpr ⟨d.1, d2.2, fun y hy z hz => d.2.2 y hy z (List.mem_cons_of_mem _ hz)⟩
  refine br_t rfl ?_
  cases A with
  | nil =>
    have ht : t = nI b := c1.1
    refine br_t ht ⟨vp_in_nI hb (by omega), br_t rfl ?_⟩
    rw [cb]
    exact give (a2 b) a2 c1.2
  | cons q A =>
    have ht : t = nI q.1 := c1.1
    have hlk : ly_lk a2 (nI q.1) (q.1 :: (ly_ids A ++ b :: ly_ids B)) := by
      rw [← ht]; exact c1
    have hlt : ∀ z, z ∈ ly_ids (q :: A) → z < 122 := by
      intro z hz
      obtain ⟨r, hr, e⟩ := List.mem_map.mp hz
      have := (c2 r (List.mem_append_left _ hr)).elim (fun p h => h.1)
      omega
    have hq1 := hlt q.1 (List.mem_cons_self)
    have hne : ¬ t = nI b := by
      rw [ht, nI_eq (by omega) (by omega)]
      intro z; exact hbA (by rw [← z]; exact List.mem_cons_self)
    refine br_f hne ⟨(ly_ids A).length + 1, ?_⟩
    have key := ly_unlink41 (post := post) (t := t) (fc := nI fr.length) (c := c) (l := l) (cu := cu) (a1 := a1) (a3 := a3) (a4 := a4) (a5 := a5) (a6 := a6) (a7 := a7) (a8 := a8) (a9 := a9) (a10 := a10) (a11 := a11) (a12 := a12) hb (ly_ids A) q.1 (ly_ids B) ((ly_ids A).length + 1) (by omega) hlt (fun z => hbA (List.mem_cons_of_mem _ z)) hlk (fun A1 g hg => ?_)
    · rw [← ht] at key
      exact key
    · have hg2 : ly_ids (q :: A) = A1 ++ [g] := hg
      have hgl : g < 122 := hlt g (by rw [hg2]; simp)
      have cg : (nI g).toNatClampNeg = g := nI_clamp (by omega)
      refine ⟨vp_in_nI hb (by omega), vp_in_nI hgl (by omega), nm_r (e' := upd a2 g (a2 b)) (by rw [cb, cg]) (give t _ ?_)⟩
      rw [hg2] at c1 d ⊢
      rw [List.append_assoc] at c1 ⊢
      have dd := List.nodup_append.mp d.1
      refine ly_lk_del (b := b) (g := g) pk_us (fun y hy => pk_un hy) A1 (ly_ids B) t (fun z => dd.2.2 g z g (by simp) rfl) (fun z => ?_) c1
      exact d.2.2 g (by simp) g (List.mem_cons_of_mem _ z) rfl
theorem ly_split_at {P Q P2 Q2 : List Nat} {s : Nat} (h : P ++ s :: Q = P2 ++ Q2) (h1 : ∀ y, y ∈ P → y < s) (h2 : ∀ y, y ∈ P2 → y < s) (h3 : ∀ y R, Q2 = y :: R → s ≤ y) : P2.length = P.length := by
  rcases Nat.lt_trichotomy P2.length P.length with g | g | g
  · cases Q2 with
    | nil =>
      have := congrArg List.length h
      simp at this
      omega
    | cons y R =>
      have e1 : (P ++ s :: Q).getD P2.length 0 = y := by rw [h]; exact ly_gC
      rw [ly_gA g] at e1
      have e2 := h1 _ (ly_gM g)
      have e3 := h3 y R rfl
      omega
  · exact g
  · have e1 : (P2 ++ Q2).getD P.length 0 = s := by rw [← h]; exact ly_gC
    rw [ly_gA g] at e1
    have e2 := h2 _ (ly_gM g)
    omega
theorem ly_dropEntry {post : St1 → Prop} {A B : List (Nat × List Nat)} {b s : Nat} {P Q p fr : List Nat} (hc : ly_ch V H a1 a2 a3 a4 a5 a6 t (A ++ (b, P ++ s :: Q) :: B)) (hn : ly_np V H a1 a3 a4 a5 a6 b (P ++ s :: Q) p)
    (hf : ly_full (A ++ (b, P ++ s :: Q) :: B)) (hfr : ly_fr fc a7 (ly_ids (A ++ (b, P ++ s :: Q) :: B)) fr)
    (hp : ∀ t' fc' a1' a2' a7' ch' fr', ly_ch V H a1' a2' a3 a4 a5 a6 t' ch' → ly_full ch' → ly_fr fc' a7' (ly_ids ch') fr' → ly_fl ch' = ly_fl A ++ ((P ++ Q) ++ ly_fl B) → post (t', fc', c, l, cu, a1', a2', a3, a4, a5, a6, a7', a8, a9, a10, a11, a12)) :
    wpX_dropEntry post (t, fc, c, l, cu, a1, a2, a3, a4, a5, a6, a7, a8, a9, a10, a11, a12) (-1) (nI (4 * b + p.getD P.length 0)) := by
  have hfo := ly_found hn
  have hn2 := hn
  obtain ⟨hb, hk, hpm, ho, hne⟩ := hn2
  have hlen : (P ++ Q).length = P.length + Q.length := List.length_append
  have hlen2 : (P ++ s :: Q).length = (P ++ Q).length + 1 := by simp; omega
  rw [hlen2] at ho
  have hbd : ∀ y, y ∈ P ++ s :: Q → y < 81 := fun y hy => (hc.2.2.2.2 y (by rw [ly_fl_mid]; exact List.mem_append_right _ (List.mem_append_left _ hy))).2
  have hs81 : s < 81 := hbd s (by simp)
  have hso := (ly_mid_nx hc.2.2.2.1).2
  have hP : ∀ y, y ∈ P → y < s := fun y hy => (List.pairwise_append.mp hso).2.2 y hy s (by simp)
  have ce : (nI (4 * b + p.getD P.length 0)).toNatClampNeg = 4 * b + p.getD P.length 0 := nI_clamp (by omega)
  have cb : (nI b).toNatClampNeg = b := nI_clamp (by omega)
  have ediv : nI (4 * b + p.getD P.length 0) / 4 = nI b := by
    rw [show (4 : Int32) = nI 4 from rfl, pk_div (by omega) (by omega) (by omega)]
    congr 1
    omega
  have erem : nI (4 * b + p.getD P.length 0) - nI (4 * b + p.getD P.length 0) / 4 * 4 = nI (p.getD P.length 0) := by
    rw [show (4 : Int32) = nI 4 from rfl, pk_rem (by omega) (by omega) (by omega)]
    congr 1
    omega
  have ib : ∀ {X : Prop}, X → vp_in (nI b) 122 ∧ X := fun h => ⟨vp_in_nI hb (by omega), h⟩
  refine ⟨by decide, nm_r ediv (ly_sizeOfNode hb hpm ho (by omega) ⟨vp_in_nI hfo.1 (by omega), ?_⟩)⟩
  rw [ce, hfo.2.1.1]
  refine ly_lesserIn hs81 hn hbd (fun P2 Q2 h1 h2 h3 => ?_)
  rw [ly_split_at h1 hP h2 h3, cb, ho]
  refine ib (nm_e (nm_e (nm_e (nm_e ⟨by decide, nm_r erem (nm_e (ib (nm_r (e' := upd a1 b (ly_ow (ly_mv p P.length (P ++ Q).length) (P ++ Q).length)) (by rw [ly_drp p hpm (P ++ Q).length (by omega) P.length (by omega) (by omega)]) ?_)))⟩))))
  have kd := ly_ch_d (a1' := upd a1 b (ly_ow (ly_mv p P.length (P ++ Q).length) (P ++ Q).length)) hc hn (fun j hj => pk_un hj) pk_us
  refine pk_eq ((P ++ Q).length + 1) 1 (fun g => ?_) (fun g => ?_)
  · have e0 : P ++ Q = [] := List.eq_nil_of_length_eq_zero (by omega)
    have kd2 : ∀ z, P ++ Q = z → ly_ch V H (upd a1 b (ly_ow (ly_mv p P.length (P ++ Q).length) (P ++ Q).length)) a2 a3 a4 a5 a6 t (A ++ (b, z) :: B) := fun z hz => by subst hz; exact kd
    have hfr2 : ly_fr fc a7 (ly_ids (A ++ (b, []) :: B)) fr := by rw [ly_ids_mid] at hfr ⊢; exact hfr
    refine ly_unlink (kd2 [] e0) hfr2 (fun t' fc' a2' a7' fr' k1 k2 => hp t' fc' _ a2' a7' (A ++ B) fr' k1 (fun q hq => ?_) k2 ?_)
    · rcases List.mem_append.mp hq with h | h
      · exact hf q (List.mem_append_left _ h)
      · exact hf q (List.mem_append_right _ (List.mem_cons_of_mem _ h))
    · rw [e0, ly_fl_app]; rfl
  · refine hp t fc _ a2 a7 (A ++ (b, P ++ Q) :: B) fr kd (fun q hq => ?_) (by rw [ly_ids_mid] at hfr ⊢; exact hfr) (ly_fl_mid _ _ _ _)
    rcases List.mem_append.mp hq with h | h
    · exact hf q (List.mem_append_left _ h)
    · rcases List.mem_cons.mp h with h | h
      · subst h
        intro z
        have z2 : P ++ Q = [] := z
        rw [z2] at g
        exact g rfl
      · exact hf q (List.mem_append_right _ (List.mem_cons_of_mem _ h))
theorem ly_takeOut {post : St1 → Prop} {m : Nat → Bool} {s : Nat} (hk : ly_ok m V (t, fc, c, l, cu, a1, a2, a3, a4, a5, a6, a7, a8, a9, a10, a11, a12)) (h9 : 9 ≤ s) (hs : s < 81) (hm : m s = true)
    (hp : ∀ t' fc' c' a1' a2' a5' a7' a8', ly_ok (ly_set m s false) V (t', fc', c', l, 0, a1', a2', a3, a4, a5', a6, a7', a8', a9, a10, a11, a12) → post (t', fc', c', l, 0, a1', a2', a3, a4, a5', a6, a7', a8', a9, a10, a11, a12)) :
    wpX_takeOut post (t, fc, c, l, cu, a1, a2, a3, a4, a5, a6, a7, a8, a9, a10, a11, a12) (nI (ly_wd s)) := by
  obtain ⟨ch, fr, hc, hf, hfr, hfl, hcn, h40, hcu⟩ := hk
  have hin : s ∈ ly_fl ch := by rw [hfl, ly_mK]; exact ⟨hs, hm⟩
  unfold wpX_takeOut
  refine ly_layersOf h9 hs ⟨2, br_f (by decide) (ly_sliceOf h9 hs (ly_entryFor hs hc hf (fun z => absurd hin z) (fun A b P Q B p hch hn => ?_)))⟩
  have hfo := ly_found hn
  have ce : (nI (4 * b + p.getD P.length 0)).toNatClampNeg = 4 * b + p.getD P.length 0 := nI_clamp (by omega)
  have i0 : ∀ {X : Prop}, X → vp_in 0 3 ∧ X := fun h => ⟨pk_in 0 3 (by omega), h⟩
  have ie : ∀ {X : Prop}, X → vp_in (nI (4 * b + p.getD P.length 0)) 488 ∧ X := fun h => ⟨vp_in_nI hfo.1 (by omega), h⟩
  have e8 : upd a8 0 (nI (4 * b + p.getD P.length 0)) (0 : Int32).toNatClampNeg = nI (4 * b + p.getD P.length 0) := by rw [sb_cl0]; exact pk_us
  refine i0 (nm_r (e' := upd a8 0 (nI (4 * b + p.getD P.length 0))) (by rw [sb_cl0]) (i0 ?_))
  rw [e8]
  refine ie (nm_e (nm_r (e' := 1) (by decide) (br_t (by decide) ?_)))
  rw [show (1 : Int32) - 1 = 0 from rfl, e8, ce]
  subst hch
  have hpos : 0 < (ly_K m).length := List.length_pos_of_mem (hfl ▸ hin)
  refine i0 (ie (nm_e (nm_r (e' := nI ((ly_K m).length - 1)) (by rw [hcn]; exact pk_sub (b := 1) (by omega)) (nm_e ⟨2, br_f (by decide) (i0 (nm_r e8 (ie ?_)))⟩))))
  rw [ce, pk_us]
  refine br_t rfl (ie ?_)
  rw [hfo.2.1.2.2.2]
  refine br_t rfl (br_t rfl ?_)
  have kw := ly_ch_w (V' := V) (H' := upd (fun _ => 1) s 0) (a4' := a4) (a5' := upd a5 (4 * b + p.getD P.length 0) 0) hc hn (fun j hj => rfl) (fun j hj => pk_un hj) (fun y hy => rfl) (fun y hy => by rw [pk_un hy]) hfo.2.1.2.1 (by rw [pk_us, pk_us])
  refine ly_dropEntry kw.1 kw.2 hf hfr (fun t' fc' a1' a2' a7' ch' fr' k1 k2 k3 k4 => nm_e (br_t (by decide) ?_))
  have hnx := ly_mid_nx hc.2.2.2.1
  have hsp := List.pairwise_append.mp hnx.2
  have hQ := (List.pairwise_cons.mp hsp.2.1).1
  have hmem : ∀ y, y ∈ ly_fl ch' ↔ (y ≠ s ∧ y ∈ ly_fl (A ++ (b, P ++ s :: Q) :: B)) := by
    intro y
    rw [k4, ly_fl_mid]
    simp only [List.mem_append, List.mem_cons]
    constructor
    · rintro (h | (h | h) | h)
      · exact ⟨hnx.1 y (Or.inl h), Or.inl h⟩
      · exact ⟨by have := hsp.2.2 y h s (by simp); omega, Or.inr (Or.inl (Or.inl h))⟩
      · exact ⟨by have := hQ y h; omega, Or.inr (Or.inl (Or.inr (Or.inr h)))⟩
      · exact ⟨hnx.1 y (Or.inr h), Or.inr (Or.inr h)⟩
    · rintro ⟨h0, h | (h | h | h) | h⟩
      · exact Or.inl h
      · exact Or.inr (Or.inl (Or.inl h))
      · exact absurd h h0
      · exact Or.inr (Or.inl (Or.inr h))
      · exact Or.inr (Or.inr h)
  have hK : ly_fl ch' = ly_K (ly_set m s false) := by
    refine ly_uniq k1.2.2.2.1 (ly_K_pw _) (fun y => ?_)
    rw [hmem y, hfl, ly_mK, ly_mK]
    unfold ly_set
    by_cases e : y = s
    · rw [if_pos e]; exact ⟨fun z => absurd e z.1, fun z => absurd z.2 (by decide)⟩
    · rw [if_neg e]; exact ⟨fun z => z.2, fun z => ⟨e, z⟩⟩
  have hlen : (ly_K (ly_set m s false)).length = (ly_K m).length - 1 := by
    rw [← hK, ← hfl, k4, ly_fl_mid]
    simp only [List.length_append, List.length_cons]
    omega
  refine hp t' fc' _ a1' a2' _ a7' _ ⟨ch', fr', ly_ch_VH k1 (fun y hy => ⟨rfl, ?_⟩), k2, k3, hK, by rw [hlen], by omega, Or.inl rfl⟩
  rw [pk_un ((hmem y).mp hy).1]
theorem ly_remove {post : Int32 → St1 → Prop} {m : Nat → Bool} {s : Nat} (hk : ly_ok m V (t, fc, c, l, cu, a1, a2, a3, a4, a5, a6, a7, a8, a9, a10, a11, a12)) (h9 : 9 ≤ s) (hs : s < 81)
    (h0 : m s = false → post (-2) (t, fc, c, l, cu, a1, a2, a3, a4, a5, a6, a7, a8, a9, a10, a11, a12)) (h1 : m s = true → ∀ u, ly_ok (ly_set m s false) V u → post 0 u) : wpX_remove post (t, fc, c, l, cu, a1, a2, a3, a4, a5, a6, a7, a8, a9, a10, a11, a12) (nI (ly_wd s)) := by
  have hk2 := hk
  obtain ⟨ch, fr, hc, hf, hfr, hfl, hcn, h40, hcu⟩ := hk2
  have hmem : s ∈ ly_fl ch ↔ m s = true := by
    rw [hfl, ly_mK]
    exact ⟨fun z => z.2, fun z => ⟨hs, z⟩⟩
  unfold wpX_remove
  refine ly_isWord_wd h9 hs (br_f (by decide) (ly_find_in h9 hs hc hf (fun g => br_t (by decide) (h0 ?_)) (fun e he hm hne => ?_)))
  · cases hms : m s with
    | false => rfl
    | true => exact absurd (hmem.mpr hms) g
  · have ce : (nI e).toNatClampNeg = e := nI_clamp (by omega)
    refine br_f (nI_pos (by omega)) ⟨vp_in_nI he (by omega), br_f ?_ ?_⟩
    · rw [ce, hne.2.2.1]; exact (by decide : ¬ (1 : Int32) = 0)
    · exact ly_takeOut hk h9 hs (hmem.mp hm) (fun t' fc' c' a1' a2' a5' a7' a8' ho => h1 (hmem.mp hm) _ ho)
end
section
variable {t fc c l cu : Int32} {a1 a2 a3 a4 a5 a6 a7 a8 a9 a10 a11 a12 : Nat → Int32}
variable {V : Nat → Int32}
/-! the list of words -/
theorem ly_w7 : ∀ s, s < 81 → 9 ≤ s → ((8 * (1 : Int32)) + (nI s / 9)) - 1 = nI (7 + s / 9) := by decide +kernel
theorem ly_w8 : ∀ s, s < 81 → 9 ≤ s → ¬ s % 9 = 0 → ((8 * nI (7 + s / 9)) + (nI s - nI s / 9 * 9)) - 1 = nI (8 * (7 + s / 9) + (s % 9 - 1)) := by decide +kernel
theorem ly_w9 : ∀ s, s < 81 → nI s - nI s / 9 * 9 = nI (s % 9) := by decide +kernel
theorem ly_wordOf {post : Int32 → Prop} {s e : Nat} (h9 : 9 ≤ s) (hs : s < 81) (he : e < 488) (h8 : a8 0 = nI e) (h3 : a3 e = nI s) (hp : post (nI (ly_wd s))) : wpX_wordOf post (t, fc, c, l, cu, a1, a2, a3, a4, a5, a6, a7, a8, a9, a10, a11, a12) 0 := by
  refine ⟨2, br_f (by decide) ⟨pk_in 0 3 (by omega), ?_⟩⟩
  rw [sb_cl0, h8]
  refine ⟨vp_in_nI he (by omega), nm_r (e' := nI s) (by rw [nI_clamp (by omega), h3]) ⟨by decide, nm_r (ly_w7 s hs h9) ⟨by decide, ?_⟩⟩⟩
  by_cases e0 : s % 9 = 0
  · refine br_t (by rw [ly_w9 s hs, e0]; decide) (nm_r (e' := 1) (by decide) (br_t (by decide) ?_))
    rw [show ly_wd s = 7 + s / 9 from if_pos e0] at hp
    exact hp
  · refine br_f (by rw [ly_w9 s hs]; exact nI_nle (by omega) (by omega)) ⟨by decide, nm_r (ly_w8 s hs h9 e0) (nm_r (e' := 1) (by decide) (br_t (by decide) ?_))⟩
    rw [show ly_wd s = 8 * (7 + s / 9) + (s % 9 - 1) from if_neg e0] at hp
    exact hp
theorem ly_list_loop {post : St1 → Prop} {K : List Nat} (hp : ∀ a8' a9' a10' a11' a12', ly_ls K V (nI K.length) a9' a10' → post (t, fc, c, nI K.length, cu, a1, a2, a3, a4, a5, a6, a7, a8', a9', a10', a11', a12')) (h40 : K.length ≤ 40) (hKb : ∀ y, y ∈ K → 9 ≤ y ∧ y < 81) :
    ∀ (T : List (Nat × List Nat)), (∀ q, q ∈ T → ly_nd V (fun _ => 1) a1 a3 a4 a5 a6 q.1 q.2) → ∀ (Q P : List Nat) (b : Nat) (p D : List Nat) (n stp : Nat) (a8 a9 a10 a11 a12 : Nat → Int32),
      ly_np V (fun _ => 1) a1 a3 a4 a5 a6 b (P ++ Q) p → ly_lk a2 (a2 b) (ly_ids T) → a11 0 = nI b → a12 0 = nI P.length → K = D ++ (Q ++ ly_fl T) →
      (∀ j, j < D.length → a9 j = nI (ly_wd (D.getD j 0)) ∧ a10 j = V (D.getD j 0)) → stp + Q.length + (ly_fl T).length + T.length + 2 ≤ 400 → Q.length + (ly_fl T).length + T.length + 3 ≤ n →
      wX_list_51 post t fc c cu n 0 (nI stp) (nI D.length) a1 a2 a3 a4 a5 a6 a7 a8 a9 a10 a11 a12 := by
  have i3 : ∀ {X : Prop}, X → vp_in 0 3 ∧ X := fun h => ⟨pk_in 0 3 (by omega), h⟩
  intro T
  induction T with
  | nil =>
    intro _ Q
    induction Q with
    | nil =>
      intro P b p D n stp a8 a9 a10 a11 a12 hn hl h11 h12 hK hls hst hfu
      obtain ⟨k, rfl⟩ : ∃ k, n = k + 1 + 1 + 1 := ⟨n - 3, by omega⟩
      obtain ⟨hb, hk, hpm, ho, hne⟩ := hn
      refine pk_le 400 stp (fun g => absurd g (by omega)) (fun _ => br_f (by decide) (i3 ?_))
      rw [sb_cl0]
      refine nm_r h11 (br_f (ly_m1 (by omega)) (i3 (ly_sizeOfNode hb hpm ho hk ?_)))
      rw [h12]
      refine br_t (by rw [List.append_nil]) ⟨vp_in_nI hb (by omega), i3 (nm_r (e' := upd a11 0 (a2 b)) (by rw [nI_clamp (by omega)]) (i3 (nm_e (nm_r (nI_1 stp) ?_))))⟩
      have hm : a2 b = -1 := hl
      refine pk_le 400 (stp + 1) (fun g => absurd g (by omega)) (fun _ => br_f (by decide) (i3 ?_))
      rw [sb_cl0]
      refine nm_r (e' := -1) (by rw [pk_us, hm]) (br_t rfl (nm_r (e' := -1) (by decide) (nm_e ?_)))
      have hD : D = K := by rw [hK]; simp [ly_fl]
      subst hD
      have fin := hp a8 a9 a10 (upd a11 0 (a2 b)) (upd a12 0 0) ⟨rfl, hls⟩
      exact br_c (fun _ => fin) (fun _ => br_t (by decide) fin)
    | cons y Q ih =>
      intro P b p D n stp a8 a9 a10 a11 a12 hn hl h11 h12 hK hls hst hfu
      obtain ⟨k, rfl⟩ : ∃ k, n = k + 1 := ⟨n - 1, by omega⟩
      have hyb := hKb y (by rw [hK]; simp)
      have hfo := ly_found hn
      have hn2 := hn
      obtain ⟨hb, hk, hpm, ho, hne⟩ := hn2
      have hDK : D.length + (Q.length + 1) + (ly_fl []).length = K.length := by rw [hK]; simp; omega
      simp only [List.length_cons] at hst hfu
      have ce : (nI (4 * b + p.getD P.length 0)).toNatClampNeg = 4 * b + p.getD P.length 0 := nI_clamp (by omega)
      have cd : (nI D.length).toNatClampNeg = D.length := nI_clamp (by omega)
      have ie : ∀ {X : Prop}, X → vp_in (nI (4 * b + p.getD P.length 0)) 488 ∧ X := fun h => ⟨vp_in_nI hfo.1 (by omega), h⟩
      have id2 : ∀ {X : Prop}, X → vp_in (nI D.length) 40 ∧ X := fun h => ⟨vp_in_nI (by omega) (by omega), h⟩
      have hlen : (P ++ y :: Q).length = P.length + (Q.length + 1) := by simp
      refine pk_le 400 stp (fun g => absurd g (by omega)) (fun _ => br_f (by decide) (i3 ?_))
      rw [sb_cl0]
      refine nm_r h11 (br_f (ly_m1 (by omega)) (i3 (ly_sizeOfNode hb hpm ho hk ?_)))
      rw [h12]
      refine pk_eq P.length (P ++ y :: Q).length (fun g => absurd g (by omega)) (fun _ => i3 (ly_entryAt hb hpm ho hk hfo.2.2.1 (i3 (i3 (nm_r (e' := upd a12 0 (nI (P ++ [y]).length)) (by rw [nI_1]; simp) (i3 (nm_e (ie ?_))))))))
      rw [ce, hfo.2.1.2.2.1]
      refine br_f (show ¬ (1 : Int32) = 0 by decide) (ly_wordOf hyb.1 hyb.2 hfo.1 pk_us hfo.2.1.1 (id2 ?_))
      rw [cd, hfo.2.1.2.1]
      refine nm_e (ie (id2 (nm_e (nm_r (e' := nI (D ++ [y]).length) (by rw [nI_1]; simp) (ie ?_)))))
      rw [ce, hfo.2.1.2.2.2]
      refine br_t rfl (nm_r (nI_1 stp) ?_)
      refine ih (P ++ [y]) b p (D ++ [y]) k (stp + 1) _ _ _ _ _ (by rw [List.append_assoc]; exact hn) hl h11 pk_us (by rw [hK]; simp) ?_ (by omega) (by omega)
      intro j hj
      rw [List.length_append] at hj
      have hj2 : j < D.length + 1 := hj
      by_cases e : j = D.length
      · subst e
        rw [pk_us, pk_us, ly_gC]
        exact ⟨rfl, rfl⟩
      · rw [pk_un e, pk_un e, ly_gA (by omega)]
        exact hls j (by omega)
  | cons q T ihT =>
    intro hnd Q
    obtain ⟨b2, k2⟩ := q
    have hnd2 := ihT (fun q hq => hnd q (List.mem_cons_of_mem _ hq))
    obtain ⟨p2, hn2'⟩ : ly_nd V (fun _ => 1) a1 a3 a4 a5 a6 b2 k2 := hnd (b2, k2) (List.mem_cons_self)
    have hb2 := hn2'.1
    have hflT : (ly_fl ((b2, k2) :: T)).length = k2.length + (ly_fl T).length := by
      show (k2 ++ ly_fl T).length = _
      rw [List.length_append]
    induction Q with
    | nil =>
      intro P b p D n stp a8 a9 a10 a11 a12 hn hl h11 h12 hK hls hst hfu
      obtain ⟨k, rfl⟩ : ∃ k, n = k + 1 := ⟨n - 1, by omega⟩
      obtain ⟨hb, hk, hpm, ho, hne⟩ := hn
      have hl1 : a2 b = nI b2 := hl.1
      simp only [List.length_cons, List.length_nil] at hst hfu
      refine pk_le 400 stp (fun g => absurd g (by omega)) (fun _ => br_f (by decide) (i3 ?_))
      rw [sb_cl0]
      refine nm_r h11 (br_f (ly_m1 (by omega)) (i3 (ly_sizeOfNode hb hpm ho hk ?_)))
      rw [h12]
      refine br_t (by rw [List.append_nil]) ⟨vp_in_nI hb (by omega), i3 (nm_r (e' := upd a11 0 (a2 b)) (by rw [nI_clamp (by omega)]) (i3 (nm_e (nm_r (nI_1 stp) ?_))))⟩
      exact hnd2 k2 [] b2 p2 D k (stp + 1) _ _ _ _ _ hn2' hl.2 (by rw [pk_us, hl1]) pk_us hK hls (by omega) (by omega)
    | cons y Q ih =>
      intro P b p D n stp a8 a9 a10 a11 a12 hn hl h11 h12 hK hls hst hfu
      obtain ⟨k, rfl⟩ : ∃ k, n = k + 1 := ⟨n - 1, by omega⟩
      have hyb := hKb y (by rw [hK]; simp)
      have hfo := ly_found hn
      have hn2 := hn
      obtain ⟨hb, hk, hpm, ho, hne⟩ := hn2
      have hDK : D.length + (Q.length + 1) + (ly_fl ((b2, k2) :: T)).length = K.length := by rw [hK]; simp; omega
      simp only [List.length_cons] at hst hfu
      have ce : (nI (4 * b + p.getD P.length 0)).toNatClampNeg = 4 * b + p.getD P.length 0 := nI_clamp (by omega)
      have cd : (nI D.length).toNatClampNeg = D.length := nI_clamp (by omega)
      have ie : ∀ {X : Prop}, X → vp_in (nI (4 * b + p.getD P.length 0)) 488 ∧ X := fun h => ⟨vp_in_nI hfo.1 (by omega), h⟩
      have id2 : ∀ {X : Prop}, X → vp_in (nI D.length) 40 ∧ X := fun h => ⟨vp_in_nI (by omega) (by omega), h⟩
      have hlen : (P ++ y :: Q).length = P.length + (Q.length + 1) := by simp
      refine pk_le 400 stp (fun g => absurd g (by omega)) (fun _ => br_f (by decide) (i3 ?_))
      rw [sb_cl0]
      refine nm_r h11 (br_f (ly_m1 (by omega)) (i3 (ly_sizeOfNode hb hpm ho hk ?_)))
      rw [h12]
      refine pk_eq P.length (P ++ y :: Q).length (fun g => absurd g (by omega)) (fun _ => i3 (ly_entryAt hb hpm ho hk hfo.2.2.1 (i3 (i3 (nm_r (e' := upd a12 0 (nI (P ++ [y]).length)) (by rw [nI_1]; simp) (i3 (nm_e (ie ?_))))))))
      rw [ce, hfo.2.1.2.2.1]
      refine br_f (show ¬ (1 : Int32) = 0 by decide) (ly_wordOf hyb.1 hyb.2 hfo.1 pk_us hfo.2.1.1 (id2 ?_))
      rw [cd, hfo.2.1.2.1]
      refine nm_e (ie (id2 (nm_e (nm_r (e' := nI (D ++ [y]).length) (by rw [nI_1]; simp) (ie ?_)))))
      rw [ce, hfo.2.1.2.2.2]
      refine br_t rfl (nm_r (nI_1 stp) ?_)
      refine ih (P ++ [y]) b p (D ++ [y]) k (stp + 1) _ _ _ _ _ (by rw [List.append_assoc]; exact hn) hl h11 pk_us (by rw [hK]; simp) ?_ (by simp only [List.length_cons]; omega) (by simp only [List.length_cons]; omega)
      intro j hj
      rw [List.length_append] at hj
      have hj2 : j < D.length + 1 := hj
      by_cases e : j = D.length
      · subst e
        rw [pk_us, pk_us, ly_gC]
        exact ⟨rfl, rfl⟩
      · rw [pk_un e, pk_un e, ly_gA (by omega)]
        exact hls j (by omega)
theorem ly_ok_b {m : Nat → Bool} {u : St1} (h : ly_ok m V u) : ∀ y, y ∈ ly_K m → 9 ≤ y ∧ y < 81 := by
  obtain ⟨t, fc, c, l, cu, a1, a2, a3, a4, a5, a6, a7, a8, a9, a10, a11, a12⟩ := u
  obtain ⟨ch, fr, hc, hf, hfr, hfl, hcn, h40, hcu⟩ := h
  intro y hy
  exact hc.2.2.2.2 y (by rw [hfl]; exact hy)
theorem ly_ok_n {m : Nat → Bool} {u : St1} (h : ly_ok m V u) : (ly_K m).length ≤ 40 := by
  obtain ⟨t, fc, c, l, cu, a1, a2, a3, a4, a5, a6, a7, a8, a9, a10, a11, a12⟩ := u
  obtain ⟨ch, fr, hc, hf, hfr, hfl, hcn, h40, hcu⟩ := h
  exact h40
theorem ly_list {post : St1 → Prop} {m : Nat → Bool} (hk : ly_ok m V (t, fc, c, l, cu, a1, a2, a3, a4, a5, a6, a7, a8, a9, a10, a11, a12))
    (hp : ∀ l' a8' a9' a10' a11' a12', ly_ok m V (t, fc, c, l', 1, a1, a2, a3, a4, a5, a6, a7, a8', a9', a10', a11', a12') → ly_ls (ly_K m) V l' a9' a10' → post (t, fc, c, l', 1, a1, a2, a3, a4, a5, a6, a7, a8', a9', a10', a11', a12')) :
    wpX_list post (t, fc, c, l, cu, a1, a2, a3, a4, a5, a6, a7, a8, a9, a10, a11, a12) := by
  have hkb := ly_ok_b hk
  obtain ⟨ch, fr, hc, hf, hfr, hfl, hcn, h40, hcu⟩ := hk
  rcases hcu with h0 | ⟨h1, hls⟩
  · subst h0
    have hp2 : ∀ a8' a9' a10' a11' a12', ly_ls (ly_K m) V (nI (ly_K m).length) a9' a10' → post (t, fc, c, nI (ly_K m).length, 1, a1, a2, a3, a4, a5, a6, a7, a8', a9', a10', a11', a12') :=
      fun a8' a9' a10' a11' a12' hls => hp _ a8' a9' a10' a11' a12' ⟨ch, fr, hc, hf, hfr, hfl, hcn, h40, Or.inr ⟨rfl, hls⟩⟩ hls
    refine br_t rfl ?_
    cases ch with
    | nil =>
      have ht : t = -1 := hc.1
      have hK0 : ly_K m = [] := hfl.symm
      refine br_t ht (nm_e (nm_e ⟨1, br_f (by decide) (br_t (by decide) ?_)⟩))
      have := hp2 a8 a9 a10 (upd a11 0 t) (upd a12 0 0) ⟨rfl, fun j hj => absurd hj (by rw [hK0]; simp)⟩
      rw [hK0] at this
      exact this
    | cons q T =>
      obtain ⟨b0, k0⟩ := q
      have ht : t = nI b0 := hc.1.1
      obtain ⟨p0, hn0⟩ : ly_nd V (fun _ => 1) a1 a3 a4 a5 a6 b0 k0 := hc.2.1 (b0, k0) (List.mem_cons_self)
      have hb0 := hn0.1
      have hll := ly_full_len hf
      have hid : (ly_ids ((b0, k0) :: T)).length = T.length + 1 := by
        show (List.map Prod.fst ((b0, k0) :: T)).length = _
        rw [List.length_map]; rfl
      have hfll : (ly_fl ((b0, k0) :: T)).length = k0.length + (ly_fl T).length := by
        show (k0 ++ ly_fl T).length = _
        rw [List.length_append]
      rw [hid, hfll] at hll
      rw [hfl] at hfll
      refine br_f (by rw [ht]; exact ly_m1 (by omega)) (nm_e (nm_e ⟨k0.length + (ly_fl T).length + T.length + 3, ?_⟩))
      exact ly_list_loop (V := V) (K := ly_K m) hp2 h40 hkb T (fun q hq => hc.2.1 q (List.mem_cons_of_mem _ hq)) k0 [] b0 p0 [] _ 0 a8 a9 a10 (upd a11 0 t) (upd a12 0 0) hn0 hc.1.2 (by rw [pk_us, ht]) pk_us hfl.symm (fun j hj => absurd hj (by simp)) (by omega) (by omega)
  · subst h1
    exact br_f (by decide) (hp l a8 a9 a10 a11 a12 ⟨ch, fr, hc, hf, hfr, hfl, hcn, h40, Or.inr ⟨rfl, hls⟩⟩ hls)
/-! loops over the list -/
/-- row x has the slices R -/
def ly_row (x : Int32) (R : Nat → Bool) : Prop := (∀ (ps : Int32 → Prop), ps 1 → wpX_isRow ps () x) ∧ ∀ (ps : Int32 → Prop) (y : Nat), 9 ≤ y → y < 81 → ps (if R y = true then 1 else 0) → wpX_begins ps () x (nI (ly_wd y))
theorem ly_row_1 : ly_row 1 (fun _ => true) := ⟨fun ps h => ly_isRow_1 h, fun ps y h1 h2 h => ly_begins_1 h1 h2 h⟩
theorem ly_wd8 (i : Nat) : ly_wd (9 * (i + 1)) = 8 + i := by
  unfold ly_wd
  rw [if_pos (by omega)]
  omega
theorem ly_row_8 {i : Nat} (hi : i < 8) : ly_row (nI (8 + i)) (fun y => decide (y / 9 = i + 1)) := by
  refine ⟨fun ps h => ?_, fun ps y h1 h2 h => ly_begins_8 h1 h2 hi ?_⟩
  · have := ly_isRow_wd (post := ps) (s := 9 * (i + 1)) (by omega) (by omega) h
    rw [ly_wd8] at this
    exact this
  · by_cases e : y / 9 = i + 1
    · rw [if_pos e]; rw [if_pos (decide_eq_true e)] at h; exact h
    · rw [if_neg e]; rw [if_neg (by simp [e])] at h; exact h
theorem ly_sum17 {post : Int32 → St1 → Prop} {K : List Nat} {x : Int32} {R : Nat → Bool} {v : Nat → Nat} (hrow : ly_row x R) (hls : ly_ls K V l a9 a10) (h40 : K.length ≤ 40) (hKb : ∀ y, y ∈ K → 9 ≤ y ∧ y < 81) (hv : ∀ y, y ∈ K → V y = nI (v y))
    (hp : post (nI ((K.map (fun y => if R y = true then v y else 0)).sum)) (t, fc, c, l, cu, a1, a2, a3, a4, a5, a6, a7, a8, a9, a10, a11, a12)) :
    ∀ (E D : List Nat) (n : Nat), K = D ++ E → E.length < n → wX_sum_17 post x t fc c l cu a1 a2 a3 a4 a5 a6 a7 a8 a9 a10 a11 a12 n (nI ((D.map (fun y => if R y = true then v y else 0)).sum)) (nI D.length) := by
  intro E
  induction E with
  | nil =>
    intro D n hK hn
    obtain ⟨k, rfl⟩ : ∃ k, n = k + 1 := ⟨n - 1, by simp at hn; omega⟩
    have hD : D = K := by rw [hK, List.append_nil]
    subst hD
    exact pk_le D.length D.length (fun _ => hp) (fun g => absurd g (by omega)) (hx := hls.1)
  | cons y E ih =>
    intro D n hK hn
    obtain ⟨k, rfl⟩ : ∃ k, n = k + 1 := ⟨n - 1, by simp at hn; omega⟩
    have hl : K.length = D.length + (E.length + 1) := by rw [hK]; simp
    have hy : K.getD D.length 0 = y := by rw [hK]; exact ly_gC
    have hyK : y ∈ K := by rw [hK]; simp
    have hyb := hKb y hyK
    obtain ⟨w1, w2⟩ := hls.2 D.length (by omega)
    rw [hy] at w1 w2
    have cd : (nI D.length).toNatClampNeg = D.length := nI_clamp (by omega)
    have nxt := ih (D ++ [y]) k (by rw [hK]; simp) (by simp at hn; omega)
    rw [show (D ++ [y]).length = D.length + 1 by simp, List.map_append, List.sum_append] at nxt
    refine pk_le K.length D.length (fun g => absurd g (by omega)) (fun _ => ⟨vp_in_nI (by omega) (by omega), ?_⟩) (hx := hls.1)
    rw [cd, w1]
    refine hrow.2 _ y hyb.1 hyb.2 ?_
    by_cases e : R y = true
    · rw [if_pos e]
      refine br_f (by decide) ⟨vp_in_nI (by omega) (by omega), nm_r (e' := nI ((D.map (fun y => if R y = true then v y else 0)).sum + v y)) (by rw [w2, hv y hyK, nI_add]) (nm_r (nI_1 _) ?_)⟩
      rw [show (List.map (fun y => if R y = true then v y else 0) [y]).sum = v y by simp [e]] at nxt
      exact nxt
    · rw [if_neg e]
      refine br_t rfl (nm_r (e' := nI ((D.map (fun y => if R y = true then v y else 0)).sum + 0)) (by rw [← nI_0, nI_add]) (nm_r (nI_1 _) ?_))
      rw [show (List.map (fun y => if R y = true then v y else 0) [y]).sum = 0 by simp [e]] at nxt
      exact nxt
theorem ly_sum {post : Int32 → St1 → Prop} {m : Nat → Bool} {x : Int32} {R : Nat → Bool} {v : Nat → Nat} (hk : ly_ok m V (t, fc, c, l, cu, a1, a2, a3, a4, a5, a6, a7, a8, a9, a10, a11, a12)) (hrow : ly_row x R) (hv : ∀ y, y ∈ ly_K m → V y = nI (v y))
    (hp : ∀ u, ly_ok m V u → post (nI (((ly_K m).map (fun y => if R y = true then v y else 0)).sum)) u) : wpX_sum post (t, fc, c, l, cu, a1, a2, a3, a4, a5, a6, a7, a8, a9, a10, a11, a12) x := by
  unfold wpX_sum
  refine hrow.1 _ (br_f (by decide) (ly_list hk (fun l' a8' a9' a10' a11' a12' hk2 hls => ⟨(ly_K m).length + 1, ?_⟩)))
  exact ly_sum17 hrow hls (ly_ok_n hk) (ly_ok_b hk) hv (hp _ hk2) (ly_K m) [] _ rfl (by omega)
theorem ly_count17 {post : Int32 → St1 → Prop} {K : List Nat} {x : Int32} {R : Nat → Bool} (hrow : ly_row x R) (hls : ly_ls K V l a9 a10) (h40 : K.length ≤ 40) (hKb : ∀ y, y ∈ K → 9 ≤ y ∧ y < 81)
    (hp : post (nI ((K.map (fun y => if R y = true then 1 else 0)).sum)) (t, fc, c, l, cu, a1, a2, a3, a4, a5, a6, a7, a8, a9, a10, a11, a12)) :
    ∀ (E D : List Nat) (n : Nat), K = D ++ E → E.length < n → wX_count_17 post x t fc c l cu a1 a2 a3 a4 a5 a6 a7 a8 a9 a10 a11 a12 n (nI ((D.map (fun y => if R y = true then 1 else 0)).sum)) (nI D.length) := by
  intro E
  induction E with
  | nil =>
    intro D n hK hn
    obtain ⟨k, rfl⟩ : ∃ k, n = k + 1 := ⟨n - 1, by simp at hn; omega⟩
    have hD : D = K := by rw [hK, List.append_nil]
    subst hD
    exact pk_le D.length D.length (fun _ => hp) (fun g => absurd g (by omega)) (hx := hls.1)
  | cons y E ih =>
    intro D n hK hn
    obtain ⟨k, rfl⟩ : ∃ k, n = k + 1 := ⟨n - 1, by simp at hn; omega⟩
    have hl : K.length = D.length + (E.length + 1) := by rw [hK]; simp
    have hy : K.getD D.length 0 = y := by rw [hK]; exact ly_gC
    have hyK : y ∈ K := by rw [hK]; simp
    have hyb := hKb y hyK
    obtain ⟨w1, w2⟩ := hls.2 D.length (by omega)
    rw [hy] at w1 w2
    have cd : (nI D.length).toNatClampNeg = D.length := nI_clamp (by omega)
    have nxt := ih (D ++ [y]) k (by rw [hK]; simp) (by simp at hn; omega)
    rw [show (D ++ [y]).length = D.length + 1 by simp, List.map_append, List.sum_append] at nxt
    refine pk_le K.length D.length (fun g => absurd g (by omega)) (fun _ => ⟨vp_in_nI (by omega) (by omega), ?_⟩) (hx := hls.1)
    rw [cd, w1]
    refine hrow.2 _ y hyb.1 hyb.2 ?_
    by_cases e : R y = true
    · rw [if_pos e]
      refine br_f (by decide) (nm_r (nI_1 _) (nm_r (nI_1 _) ?_))
      rw [show (List.map (fun y => if R y = true then 1 else 0) [y]).sum = 1 by simp [e]] at nxt
      exact nxt
    · rw [if_neg e]
      refine br_t rfl (nm_r (e' := nI ((D.map (fun y => if R y = true then 1 else 0)).sum + 0)) (by rw [← nI_0, nI_add]) (nm_r (nI_1 _) ?_))
      rw [show (List.map (fun y => if R y = true then 1 else 0) [y]).sum = 0 by simp [e]] at nxt
      exact nxt
theorem ly_count {post : Int32 → St1 → Prop} {m : Nat → Bool} {x : Int32} {R : Nat → Bool} (hk : ly_ok m V (t, fc, c, l, cu, a1, a2, a3, a4, a5, a6, a7, a8, a9, a10, a11, a12)) (hrow : ly_row x R)
    (hp : ∀ u, ly_ok m V u → post (nI (((ly_K m).map (fun y => if R y = true then 1 else 0)).sum)) u) : wpX_count post (t, fc, c, l, cu, a1, a2, a3, a4, a5, a6, a7, a8, a9, a10, a11, a12) x := by
  unfold wpX_count
  refine hrow.1 _ (br_f (by decide) (ly_list hk (fun l' a8' a9' a10' a11' a12' hk2 hls => ⟨(ly_K m).length + 1, ?_⟩)))
  exact ly_count17 hrow hls (ly_ok_n hk) (ly_ok_b hk) (hp _ hk2) (ly_K m) [] _ rfl (by omega)
/-! the place of a word -/
theorem ly_rk {s : Nat} : ∀ {K : List Nat}, K.Pairwise (· < ·) → ∃ r, r ≤ K.length ∧ (∀ j, j < r → K.getD j 0 < s) ∧ (∀ j, r ≤ j → j < K.length → s ≤ K.getD j 0) ∧ r = (K.filter (fun y => decide (y < s))).length := by
  intro K
  induction K with
  | nil => intro _; exact ⟨0, Nat.le_refl _, fun j h => absurd h (by omega), fun j _ h => absurd h (by simp), rfl⟩
  | cons x K ih =>
    intro h
    obtain ⟨h1, h2⟩ := List.pairwise_cons.mp h
    obtain ⟨r, r1, r2, r3, r4⟩ := ih h2
    by_cases e : x < s
    · refine ⟨r + 1, by simp; omega, fun j hj => ?_, fun j hj hj2 => ?_, ?_⟩
      · cases j with
        | zero => exact e
        | succ j => rw [List.getD_cons_succ]; exact r2 j (by omega)
      · cases j with
        | zero => omega
        | succ j => rw [List.getD_cons_succ]; exact r3 j (by omega) (by simp at hj2; omega)
      · rw [List.filter_cons_of_pos (by simpa using e), List.length_cons, r4]
    · have hbig : ∀ y, y ∈ x :: K → s ≤ y := by
        intro y hy
        rcases List.mem_cons.mp hy with g | g
        · omega
        · have := h1 y g; omega
      refine ⟨0, Nat.zero_le _, fun j hj => absurd hj (by omega), fun j _ hj2 => hbig _ (ly_gM hj2), ?_⟩
      have : (x :: K).filter (fun y => decide (y < s)) = [] := by
        rw [List.filter_eq_nil_iff]
        intro y hy
        have := hbig y hy
        simp
        omega
      rw [this]; rfl
theorem ly_placeOf14 {post : Int32 → St1 → Prop} {K : List Nat} {s r : Nat} (h9 : 9 ≤ s) (hs : s < 81) (hls : ly_ls K V l a9 a10) (h40 : K.length ≤ 40) (hKb : ∀ y, y ∈ K → 9 ≤ y ∧ y < 81)
    (r2 : ∀ j, j < r → K.getD j 0 < s) (r3 : ∀ j, r ≤ j → j < K.length → s ≤ K.getD j 0) (hp : post (nI r) (t, fc, c, l, cu, a1, a2, a3, a4, a5, a6, a7, a8, a9, a10, a11, a12)) :
    ∀ (n k lo hi : Nat), k + n = 8 → k ≤ 7 → lo ≤ r → r ≤ hi → hi ≤ K.length → (hi - lo) * 2 ^ k < 64 → wX_placeOf_14 post (nI (ly_wd s)) t fc c l cu a1 a2 a3 a4 a5 a6 a7 a8 a9 a10 a11 a12 n (nI lo) (nI hi) (nI k) := by
  intro n
  induction n with
  | zero => intro k lo hi h1 h2; omega
  | succ n ih =>
    intro k lo hi h1 h2 hlo hhi hlen hw
    have fin : hi ≤ lo → post (nI lo) (t, fc, c, l, cu, a1, a2, a3, a4, a5, a6, a7, a8, a9, a10, a11, a12) := by
      intro g
      have : lo = r := by omega
      rw [this]; exact hp
    refine pk_le 7 k (fun g => ?_) (fun g => ?_)
    · have e7 : k = 7 := by omega
      subst e7
      exact fin (by omega)
    · refine pk_le hi lo fin (fun g2 => nm_r (e' := nI ((lo + hi) / 2)) (by rw [nI_add, pk_shrN (by omega) _ 1 (by decide)]) ⟨vp_in_nI (by omega) (by omega), ?_⟩)
      have cm : (nI ((lo + hi) / 2)).toNatClampNeg = (lo + hi) / 2 := nI_clamp (by omega)
      obtain ⟨w1, _⟩ := hls.2 ((lo + hi) / 2) (by omega)
      have hmem : K.getD ((lo + hi) / 2) 0 ∈ K := ly_gM (by omega)
      have hb := hKb _ hmem
      rw [cm, w1]
      refine ly_comesBefore hb.1 hb.2 h9 hs ?_
      have hpow : 2 ^ (k + 1) = 2 ^ k * 2 := Nat.pow_succ _ _
      by_cases e : K.getD ((lo + hi) / 2) 0 < s
      · rw [if_pos e]
        have hr : (lo + hi) / 2 < r := by
          rcases Nat.lt_or_ge ((lo + hi) / 2) r with z | z
          · exact z
          · have := r3 _ z (by omega); omega
        refine br_f (by decide) (nm_r (nI_1 _) (nm_r (nI_1 k) (ih (k + 1) ((lo + hi) / 2 + 1) hi (by omega) (by omega) (by omega) hhi hlen ?_)))
        have h5 : (hi - ((lo + hi) / 2 + 1)) * 2 ≤ hi - lo := by omega
        calc (hi - ((lo + hi) / 2 + 1)) * 2 ^ (k + 1) = (hi - ((lo + hi) / 2 + 1)) * 2 * 2 ^ k := by rw [hpow, Nat.mul_comm (2 ^ k) 2, Nat.mul_assoc]
          _ ≤ (hi - lo) * 2 ^ k := Nat.mul_le_mul_right _ h5
          _ < 64 := hw
      · rw [if_neg e]
        have hr : r ≤ (lo + hi) / 2 := by
          rcases Nat.lt_or_ge ((lo + hi) / 2) r with z | z
          · exact absurd (r2 _ z) e
          · exact z
        refine br_t rfl (nm_r (nI_1 k) (ih (k + 1) lo ((lo + hi) / 2) (by omega) (by omega) hlo hr (by omega) ?_))
        have h5 : ((lo + hi) / 2 - lo) * 2 ≤ hi - lo := by omega
        calc ((lo + hi) / 2 - lo) * 2 ^ (k + 1) = ((lo + hi) / 2 - lo) * 2 * 2 ^ k := by rw [hpow, Nat.mul_comm (2 ^ k) 2, Nat.mul_assoc]
          _ ≤ (hi - lo) * 2 ^ k := Nat.mul_le_mul_right _ h5
          _ < 64 := hw
theorem ly_rank {post : Int32 → St1 → Prop} {m : Nat → Bool} {s : Nat} (hk : ly_ok m V (t, fc, c, l, cu, a1, a2, a3, a4, a5, a6, a7, a8, a9, a10, a11, a12)) (h9 : 9 ≤ s) (hs : s < 81)
    (hp : ∀ u, ly_ok m V u → post (nI ((ly_K m).filter (fun y => decide (y < s))).length) u) : wpX_rank post (t, fc, c, l, cu, a1, a2, a3, a4, a5, a6, a7, a8, a9, a10, a11, a12) (nI (ly_wd s)) := by
  unfold wpX_rank
  refine ly_isWord_wd h9 hs (br_f (by decide) (ly_list hk (fun l' a8' a9' a10' a11' a12' hk2 hls => ⟨8, ?_⟩)))
  obtain ⟨r, r1, r2, r3, r4⟩ := ly_rk (s := s) (ly_K_pw m)
  have h40 := ly_ok_n hk
  have hl : l' = nI (ly_K m).length := hls.1
  have key := ly_placeOf14 (post := fun r_3 u => match u with | (t', fc', c', l', cu', a1', a2', a3', a4', a5', a6', a7', a8', a9', a10', a11', a12') => post r_3 (t', fc', c', l', cu', a1', a2', a3', a4', a5', a6', a7', a8', a9', a10', a11', a12')) (t := t) (fc := fc) (c := c) (cu := 1) (a1 := a1) (a2 := a2) (a3 := a3) (a4 := a4) (a5 := a5) (a6 := a6) (a7 := a7) (a8 := a8') (a11 := a11') (a12 := a12') h9 hs hls h40 (ly_ok_b hk) r2 r3 (by rw [r4]; exact hp _ hk2) 8 0 0 (ly_K m).length (by omega) (by omega) (by omega) r1 (by omega) (by omega)
  rw [← hl] at key
  exact key
/-! the common beginning -/
def ly_cmR (i : Nat) (D : List Nat) (r : Int32) : Prop :=
  ((∀ y, y ∈ D → ¬ y / 9 = i + 1) ∧ r = -2) ∨ (∃ y, y ∈ D ∧ y / 9 = i + 1 ∧ (∀ z, z ∈ D → z / 9 = i + 1 → z = y) ∧ r = nI (ly_wd y)) ∨ ((∃ y z, y ∈ D ∧ z ∈ D ∧ y < z ∧ y / 9 = i + 1 ∧ z / 9 = i + 1) ∧ r = nI (8 + i))
theorem ly_common18 {post : Int32 → St1 → Prop} {K : List Nat} {i : Nat} (hi : i < 8) (hls : ly_ls K V l a9 a10) (h40 : K.length ≤ 40) (hKb : ∀ y, y ∈ K → 9 ≤ y ∧ y < 81) (hso : K.Pairwise (· < ·))
    (hp : ∀ r, ly_cmR i K r → post r (t, fc, c, l, cu, a1, a2, a3, a4, a5, a6, a7, a8, a9, a10, a11, a12)) :
    ∀ (E D : List Nat) (n : Nat) (r : Int32), K = D ++ E → E.length < n → ly_cmR i D r → wX_common_18 post (nI (8 + i)) t fc c l cu a1 a2 a3 a4 a5 a6 a7 a8 a9 a10 a11 a12 n r (nI D.length) := by
  intro E
  induction E with
  | nil =>
    intro D n r hK hn hr
    obtain ⟨k, rfl⟩ : ∃ k, n = k + 1 := ⟨n - 1, by simp at hn; omega⟩
    have hD : D = K := by rw [hK, List.append_nil]
    subst hD
    exact pk_le D.length D.length (fun _ => hp r hr) (fun g => absurd g (by omega)) (hx := hls.1)
  | cons y E ih =>
    intro D n r hK hn hr
    obtain ⟨k, rfl⟩ : ∃ k, n = k + 1 := ⟨n - 1, by simp at hn; omega⟩
    have hl : K.length = D.length + (E.length + 1) := by rw [hK]; simp
    have hy : K.getD D.length 0 = y := by rw [hK]; exact ly_gC
    have hyK : y ∈ K := by rw [hK]; simp
    have hyb := hKb y hyK
    have hDlt : ∀ z, z ∈ D → z < y := by
      rw [hK] at hso
      exact fun z hz => (List.pairwise_append.mp hso).2.2 z hz y (by simp)
    have hDb : ∀ z, z ∈ D → 9 ≤ z := fun z hz => (hKb z (by rw [hK]; simp [hz])).1
    obtain ⟨w1, _⟩ := hls.2 D.length (by omega)
    rw [hy] at w1
    have cd : (nI D.length).toNatClampNeg = D.length := nI_clamp (by omega)
    have nxt : ∀ r', ly_cmR i (D ++ [y]) r' → wX_common_18 post (nI (8 + i)) t fc c l cu a1 a2 a3 a4 a5 a6 a7 a8 a9 a10 a11 a12 k r' (nI (D.length + 1)) := by
      intro r' hr'
      have := ih (D ++ [y]) k r' (by rw [hK]; simp) (by simp at hn; omega) hr'
      rw [show (D ++ [y]).length = D.length + 1 by simp] at this
      exact this
    refine pk_le K.length D.length (fun g => absurd g (by omega)) (fun _ => ⟨vp_in_nI (by omega) (by omega), ?_⟩) (hx := hls.1)
    rw [cd, w1]
    refine ly_begins_8 hyb.1 hyb.2 hi ?_
    by_cases e : y / 9 = i + 1
    · rw [if_pos e]
      refine br_f (by decide) ?_
      rcases hr with ⟨h1, h2⟩ | ⟨z, h1, h2, h3, h4⟩ | ⟨⟨z1, z2, h1, h2, h3, h4, h5⟩, h6⟩
      · subst h2
        refine br_f (by decide) ⟨vp_in_nI (by omega) (by omega), nm_e (nm_r (nI_1 _) (nxt _ (Or.inr (Or.inl ⟨y, by simp, e, fun z hz hz2 => ?_, rfl⟩))))⟩
        rcases List.mem_append.mp hz with g | g
        · exact absurd hz2 (h1 z g)
        · exact List.mem_singleton.mp g
      · subst h4
        have hzy := hDlt z h1
        have hz9 := hDb z h1
        have hzw := ly_wd_lt hz9 (show z < 81 by omega)
        refine br_t (nI_pos' (by omega)) ⟨vp_in_nI (by omega) (by omega), ly_shared hz9 hyb.2 hzy (by omega) (nm_r (nI_1 _) (nxt _ (Or.inr (Or.inr ⟨⟨z, y, by simp [h1], by simp, hzy, h2, e⟩, ?_⟩))))⟩
        rw [h2]
        congr 1
        omega
      · subst h6
        have hzy := hDlt z2 h2
        refine br_t (nI_pos' (by omega)) ⟨vp_in_nI (by omega) (by omega), ?_⟩
        have key : ∀ {ps : Int32 → Prop}, ps (nI (8 + i)) → wpX_shared ps () (nI (8 + i)) (nI (ly_wd y)) := by
          intro ps hps
          have := ly_shared (post := ps) (s := 9 * (i + 1)) (u := y) (by omega) hyb.2 (by omega) (by omega) (by rw [show 7 + 9 * (i + 1) / 9 = 8 + i by omega]; exact hps)
          rw [ly_wd8] at this
          exact this
        exact key (nm_r (nI_1 _) (nxt _ (Or.inr (Or.inr ⟨⟨z1, z2, by simp [h1], by simp [h2], h3, h4, h5⟩, rfl⟩))))
    · rw [if_neg e]
      refine br_t rfl (nm_r (nI_1 _) (nxt r ?_))
      have hin : ∀ z, z ∈ D ++ [y] → z / 9 = i + 1 → z ∈ D := by
        intro z hz hz2
        rcases List.mem_append.mp hz with g | g
        · exact g
        · rw [List.mem_singleton.mp g] at hz2; exact absurd hz2 e
      rcases hr with ⟨h1, h2⟩ | ⟨z, h1, h2, h3, h4⟩ | ⟨⟨z1, z2, h1, h2, h3, h4, h5⟩, h6⟩
      · exact Or.inl ⟨fun z hz hz2 => h1 z (hin z hz hz2) hz2, h2⟩
      · exact Or.inr (Or.inl ⟨z, by simp [h1], h2, fun z2 hz2 hz3 => h3 z2 (hin z2 hz2 hz3) hz3, h4⟩)
      · exact Or.inr (Or.inr ⟨⟨z1, z2, by simp [h1], by simp [h2], h3, h4, h5⟩, h6⟩)
theorem ly_common {post : Int32 → St1 → Prop} {m : Nat → Bool} {i : Nat} (hi : i < 8) (hk : ly_ok m V (t, fc, c, l, cu, a1, a2, a3, a4, a5, a6, a7, a8, a9, a10, a11, a12))
    (hp : ∀ r u, ly_ok m V u → ly_cmR i (ly_K m) r → post r u) : wpX_common post (t, fc, c, l, cu, a1, a2, a3, a4, a5, a6, a7, a8, a9, a10, a11, a12) (nI (8 + i)) := by
  unfold wpX_common
  refine (ly_row_8 hi).1 _ (br_f (by decide) (ly_list hk (fun l' a8' a9' a10' a11' a12' hk2 hls => ⟨(ly_K m).length + 1, ?_⟩)))
  exact ly_common18 hi hls (ly_ok_n hk) (ly_ok_b hk) (ly_K_pw m) (fun r hr => hp r _ hk2 hr) (ly_K m) [] _ (-2) rfl (by omega) (Or.inl ⟨fun y hy => absurd hy List.not_mem_nil, rfl⟩)
/-! clearing a row -/
theorem ly_ok_c {m m2 : Nat → Bool} {u : St1} (h : ∀ y, y < 81 → m y = m2 y) (hk : ly_ok m V u) : ly_ok m2 V u := by
  have e : ly_K m = ly_K m2 := ly_uniq (ly_K_pw _) (ly_K_pw _) (fun y => by
    rw [ly_mK, ly_mK]
    exact ⟨fun z => ⟨z.1, by rw [← h y z.1]; exact z.2⟩, fun z => ⟨z.1, by rw [h y z.1]; exact z.2⟩⟩)
  obtain ⟨t, fc, c, l, cu, a1, a2, a3, a4, a5, a6, a7, a8, a9, a10, a11, a12⟩ := u
  unfold ly_ok at hk ⊢
  rw [← e]
  exact hk
def ly_cut (m R : Nat → Bool) (D : List Nat) : Nat → Bool := fun y => m y && !(R y && decide (y ∈ D))
theorem ly_clear23 {post : Int32 → St1 → Prop} {m : Nat → Bool} {x : Int32} {R : Nat → Bool} (hrow : ly_row x R) (hls : ∀ j, j < (ly_K m).length → a9 j = nI (ly_wd ((ly_K m).getD j 0))) (h40 : (ly_K m).length ≤ 40) (hKb : ∀ y, y ∈ ly_K m → 9 ≤ y ∧ y < 81)
    (hp : ∀ t fc c cu a1 a2 a5 a7 a8, ly_ok (ly_cut m R (ly_K m)) V (t, fc, c, l, cu, a1, a2, a3, a4, a5, a6, a7, a8, a9, a10, a11, a12) → post (nI (((ly_K m).map (fun y => if R y = true then 1 else 0)).sum)) (t, fc, c, l, cu, a1, a2, a3, a4, a5, a6, a7, a8, a9, a10, a11, a12)) :
    ∀ (E D : List Nat) (n : Nat) (t fc c cu : Int32) (a1 a2 a5 a7 a8 : Nat → Int32), ly_K m = D ++ E → E.length < n → ly_ok (ly_cut m R D) V (t, fc, c, l, cu, a1, a2, a3, a4, a5, a6, a7, a8, a9, a10, a11, a12) → wX_clear_23 post x (nI (ly_K m).length) n (nI ((D.map (fun y => if R y = true then 1 else 0)).sum)) (nI D.length) t fc c l cu a1 a2 a3 a4 a5 a6 a7 a8 a9 a10 a11 a12 := by
  intro E
  induction E with
  | nil =>
    intro D n t fc c cu a1 a2 a5 a7 a8 hK hn hk
    obtain ⟨k, rfl⟩ : ∃ k, n = k + 1 := ⟨n - 1, by simp at hn; omega⟩
    have hD : ly_K m = D := by rw [hK, List.append_nil]
    rw [← hD] at hk ⊢
    exact pk_le (ly_K m).length (ly_K m).length (fun _ => hp _ _ _ _ _ _ _ _ _ hk) (fun g => absurd g (by omega))
  | cons y E ih =>
    intro D n t fc c cu a1 a2 a5 a7 a8 hK hn hk
    obtain ⟨k, rfl⟩ : ∃ k, n = k + 1 := ⟨n - 1, by simp at hn; omega⟩
    have hl : (ly_K m).length = D.length + (E.length + 1) := by rw [hK]; simp
    have hy : (ly_K m).getD D.length 0 = y := by rw [hK]; exact ly_gC
    have hyK : y ∈ ly_K m := by rw [hK]; simp
    have hyb := hKb y hyK
    have hyD : y ∉ D := by
      intro z
      have hso := ly_K_pw m
      rw [hK] at hso
      have := (List.pairwise_append.mp hso).2.2 y z y (by simp)
      omega
    have w1 := hls D.length (by omega)
    rw [hy] at w1
    have cd : (nI D.length).toNatClampNeg = D.length := nI_clamp (by omega)
    have nxt := ih (D ++ [y]) k
    rw [show (D ++ [y]).length = D.length + 1 by simp, List.map_append, List.sum_append] at nxt
    refine pk_le (ly_K m).length D.length (fun g => absurd g (by omega)) (fun _ => ⟨vp_in_nI (by omega) (by omega), ?_⟩)
    rw [cd, w1]
    refine hrow.2 _ y hyb.1 hyb.2 ?_
    have hcut : ∀ z, z ≠ y → ly_cut m R (D ++ [y]) z = ly_cut m R D z := by
      intro z hz
      unfold ly_cut
      have : decide (z ∈ D ++ [y]) = decide (z ∈ D) := by
        apply decide_eq_decide.mpr
        simp [hz]
      rw [this]
    by_cases e : R y = true
    · rw [if_pos e]
      refine br_f (by decide) ⟨vp_in_nI (by omega) (by omega), ly_takeOut hk hyb.1 hyb.2 ?_ (fun t' fc' c' a1' a2' a5' a7' a8' hk2 => nm_r (nI_1 _) (nm_r (nI_1 _) ?_))⟩
      · unfold ly_cut
        rw [(ly_mK.mp hyK).2, decide_eq_false hyD]
        simp
      · rw [show (List.map (fun y => if R y = true then 1 else 0) [y]).sum = 1 by simp [e]] at nxt
        refine nxt _ _ _ _ _ _ _ _ _ (by rw [hK]; simp) (by simp at hn; omega) (ly_ok_c (fun z _ => ?_) hk2)
        unfold ly_set
        by_cases ez : z = y
        · rw [if_pos ez, ez]
          unfold ly_cut
          rw [e, decide_eq_true (by simp : y ∈ D ++ [y])]
          simp
        · rw [if_neg ez, hcut z ez]
    · rw [if_neg e]
      refine br_t rfl (nm_r (nI_1 _) ?_)
      rw [show (List.map (fun y => if R y = true then 1 else 0) [y]).sum = 0 by simp [e], Nat.add_zero] at nxt
      refine nxt _ _ _ _ _ _ _ _ _ (by rw [hK]; simp) (by simp at hn; omega) (ly_ok_c (fun z _ => ?_) hk)
      by_cases ez : z = y
      · rw [ez]
        unfold ly_cut
        rw [Bool.eq_false_iff.mpr e]
        simp
      · rw [hcut z ez]
theorem ly_clear {post : Int32 → St1 → Prop} {m : Nat → Bool} {x : Int32} {R : Nat → Bool} (hk : ly_ok m V (t, fc, c, l, cu, a1, a2, a3, a4, a5, a6, a7, a8, a9, a10, a11, a12)) (hrow : ly_row x R)
    (hp : ∀ u, ly_ok (fun y => m y && !R y) V u → post (nI (((ly_K m).map (fun y => if R y = true then 1 else 0)).sum)) u) : wpX_clear post (t, fc, c, l, cu, a1, a2, a3, a4, a5, a6, a7, a8, a9, a10, a11, a12) x := by
  unfold wpX_clear
  refine hrow.1 _ (br_f (by decide) (ly_list hk (fun l' a8' a9' a10' a11' a12' hk2 hls => ⟨(ly_K m).length + 1, ?_⟩)))
  have key := ly_clear23 (post := post) (V := V) (l := l') (a3 := a3) (a4 := a4) (a6 := a6) (a9 := a9') (a10 := a10') (a11 := a11') (a12 := a12') hrow (fun j hj => (hls.2 j hj).1) (ly_ok_n hk) (ly_ok_b hk)
    (fun t fc c cu a1 a2 a5 a7 a8 hk3 => hp _ (ly_ok_c (fun y hy => ?_) hk3)) (ly_K m) [] ((ly_K m).length + 1) t fc c 1 a1 a2 a5 a7 a8' rfl (by omega) (ly_ok_c (fun y _ => by unfold ly_cut; simp) hk2)
  · rw [← hls.1] at key
    exact key
  · unfold ly_cut
    cases hm : m y with
    | false => simp
    | true => rw [decide_eq_true (ly_mK.mpr ⟨hy, hm⟩)]; simp
end
section
/-! bits -/
def ly_bL (x : Int64) (i : Nat) : Bool := x.toBitVec.getLsbD i
def ly_bI (x : Int32) (i : Nat) : Bool := x.toBitVec.getLsbD i
theorem ly_smL : ∀ k, k < 64 → (((nI k).toInt64 &&& 63).toBitVec.smod 64).toNat = k := by decide +kernel
theorem ly_smI : ∀ k, k < 32 → ((nI k &&& 31).toBitVec.smod 32).toNat = k := by decide +kernel
theorem ly_shrL (x : Int64) {k : Nat} (hk : k < 64) : (x >>> ((nI k).toInt64 &&& 63)).toBitVec.getLsbD 0 = ly_bL x k := by
  rw [Int64.toBitVec_shiftRight]
  show (x.toBitVec.sshiftRight (((nI k).toInt64 &&& 63).toBitVec.smod 64).toNat).getLsbD 0 = _
  rw [ly_smL k hk, BitVec.getLsbD_sshiftRight]
  simp [hk, ly_bL]
theorem ly_shrI (x : Int32) {k : Nat} (hk : k < 32) : (x >>> (nI k &&& 31)).toBitVec.getLsbD 0 = ly_bI x k := by
  rw [Int32.toBitVec_shiftRight]
  show (x.toBitVec.sshiftRight ((nI k &&& 31).toBitVec.smod 32).toNat).getLsbD 0 = _
  rw [ly_smI k hk, BitVec.getLsbD_sshiftRight]
  simp [hk, ly_bI]
theorem ly_mod2 {n : Nat} (b : BitVec n) : b.toNat % 2 = (b.getLsbD 0).toNat := by
  unfold BitVec.getLsbD
  rw [Nat.testBit_zero]
  rcases Nat.mod_two_eq_zero_or_one b.toNat with h | h <;> simp [h]
theorem ly_bit64 (x : Int64) {k : Nat} (hk : k < 64) : ((x >>> ((nI k).toInt64 &&& 63)).toInt32) &&& 1 = nI (ly_bL x k).toNat := by
  rw [pk_and _ 1 (by decide), ← ly_shrL x hk]
  congr 1
  rw [show (2 ^ 1 : Nat) = 2 from rfl, ly_mod2, Int64.toBitVec_toInt32, BitVec.getLsbD_signExtend]
  simp
theorem ly_bit32 (x : Int32) {k : Nat} (hk : k < 32) : (x >>> (nI k &&& 31)) &&& 1 = nI (ly_bI x k).toNat := by
  rw [pk_and _ 1 (by decide), ← ly_shrI x hk]
  congr 1
  rw [show (2 ^ 1 : Nat) = 2 from rfl, ly_mod2]
theorem ly_bit1 (x : Int64) {k : Nat} (hk : k < 64) : (x >>> ((nI k).toInt64 &&& 63)) &&& 1 = 1 ↔ ly_bL x k = true := by
  rw [← ly_shrL x hk, ← Int64.toBitVec_inj, Int64.toBitVec_and]
  show (_ &&& 1#64) = 1#64 ↔ _
  rw [BitVec.and_one_eq_setWidth_ofBool_getLsbD]
  cases (x >>> ((nI k).toInt64 &&& 63)).toBitVec.getLsbD 0
  · exact ⟨fun z => absurd z (by decide), fun z => absurd z (by decide)⟩
  · exact ⟨fun _ => rfl, fun _ => by decide⟩
/-! sums -/
def ly_S (f : Nat → Nat) : Nat → Nat
  | 0 => 0
  | n + 1 => ly_S f n + f n
theorem ly_S_c {f g : Nat → Nat} : ∀ {n : Nat}, (∀ i, i < n → f i = g i) → ly_S f n = ly_S g n := by
  intro n
  induction n with
  | zero => intro _; rfl
  | succ n ih =>
    intro h
    show ly_S f n + f n = ly_S g n + g n
    rw [ih (fun i hi => h i (by omega)), h n (by omega)]
theorem ly_S_0 {f : Nat → Nat} : ∀ {n : Nat}, (∀ i, i < n → f i = 0) → ly_S f n = 0 := by
  intro n
  induction n with
  | zero => intro _; rfl
  | succ n ih =>
    intro h
    show ly_S f n + f n = 0
    rw [ih (fun i hi => h i (by omega)), h n (by omega)]
theorem ly_S_add (f : Nat → Nat) (a : Nat) : ∀ b, ly_S f (a + b) = ly_S f a + ly_S (fun i => f (a + i)) b := by
  intro b
  induction b with
  | zero => rfl
  | succ b ih =>
    show ly_S f (a + b) + f (a + b) = ly_S f a + (ly_S (fun i => f (a + i)) b + f (a + b))
    rw [ih, Nat.add_assoc]
theorem ly_S_front (f : Nat → Nat) (n : Nat) : ly_S f (n + 1) = f 0 + ly_S (fun i => f (i + 1)) n := by
  rw [Nat.add_comm n 1, ly_S_add]
  show 0 + f 0 + _ = _
  rw [Nat.zero_add]
  congr 1
  exact ly_S_c (fun i _ => by rw [Nat.add_comm])
theorem ly_S_tail {f : Nat → Nat} {a b : Nat} (hab : a ≤ b) (h : ∀ i, a ≤ i → f i = 0) : ly_S f b = ly_S f a := by
  obtain ⟨k, rfl⟩ : ∃ k, b = a + k := ⟨b - a, by omega⟩
  rw [ly_S_add, ly_S_0 (fun i _ => h (a + i) (by omega)), Nat.add_zero]
theorem ly_S_one {f : Nat → Nat} {i : Nat} : ∀ {n : Nat}, i < n → (∀ j, j < n → j ≠ i → f j = 0) → ly_S f n = f i := by
  intro n
  induction n with
  | zero => intro h; omega
  | succ n ih =>
    intro h h2
    show ly_S f n + f n = f i
    by_cases e : i = n
    · subst e
      rw [ly_S_0 (fun j hj => h2 j (by omega) (by omega)), Nat.zero_add]
    · rw [ih (by omega) (fun j hj hj2 => h2 j (by omega) hj2), h2 n (by omega) (fun z => e z.symm), Nat.add_zero]
theorem ly_S_ge {f : Nat → Nat} {i : Nat} : ∀ {n : Nat}, i < n → f i ≤ ly_S f n := by
  intro n
  induction n with
  | zero => intro h; omega
  | succ n ih =>
    intro h
    show f i ≤ ly_S f n + f n
    by_cases e : i = n
    · subst e; omega
    · have := ih (by omega); omega
theorem ly_S_ge2 {f : Nat → Nat} {i j : Nat} : ∀ {n : Nat}, i < j → j < n → f i + f j ≤ ly_S f n := by
  intro n
  induction n with
  | zero => intro _ h; omega
  | succ n ih =>
    intro hij h
    show f i + f j ≤ ly_S f n + f n
    by_cases e : j = n
    · subst e
      have := ly_S_ge (f := f) hij
      omega
    · have := ih hij (by omega); omega
theorem ly_S_ex {f : Nat → Nat} : ∀ {n : Nat}, 0 < ly_S f n → ∃ i, i < n ∧ 0 < f i := by
  intro n
  induction n with
  | zero => intro h; exact absurd h (by show ¬ 0 < 0; omega)
  | succ n ih =>
    intro h
    have h2 : 0 < ly_S f n + f n := h
    by_cases e : 0 < f n
    · exact ⟨n, by omega, e⟩
    · obtain ⟨i, h3, h4⟩ := ih (by omega)
      exact ⟨i, by omega, h4⟩
theorem ly_S_ex2 {f : Nat → Nat} (h1 : ∀ i, f i ≤ 1) : ∀ {n : Nat}, 1 < ly_S f n → ∃ i j, i < j ∧ j < n ∧ 0 < f i ∧ 0 < f j := by
  intro n
  induction n with
  | zero => intro h; exact absurd h (by show ¬ 1 < 0; omega)
  | succ n ih =>
    intro h
    have h2 : 1 < ly_S f n + f n := h
    by_cases e : 0 < f n
    · have := h1 n
      obtain ⟨i, h3, h4⟩ := ly_S_ex (f := f) (n := n) (by omega)
      exact ⟨i, n, h3, by omega, h4, e⟩
    · obtain ⟨i, j, h3, h4, h5, h6⟩ := ih (by omega)
      exact ⟨i, j, h3, by omega, h5, h6⟩
theorem ly_S81 (g : Nat → Nat) (h0 : ∀ y, y < 9 → g y = 0) : ly_S g 81 = ly_S (fun x => g (9 * (x + 1))) 8 + ly_S (fun w => g (9 * (w / 8 + 1) + w % 8 + 1)) 64 := by
  have P : ∀ q, ly_S g (9 * (q + 1)) = ly_S (fun x => g (9 * (x + 1))) q + ly_S (fun w => g (9 * (w / 8 + 1) + w % 8 + 1)) (8 * q) := by
    intro q
    induction q with
    | zero => exact ly_S_0 h0
    | succ q ih =>
      rw [show 9 * (q + 1 + 1) = 9 * (q + 1) + (8 + 1) by omega, ly_S_add, ih, ly_S_front, show 8 * (q + 1) = 8 * q + 8 by omega, ly_S_add (fun w => g (9 * (w / 8 + 1) + w % 8 + 1)) (8 * q) 8]
      have e : ly_S (fun i => g (9 * (q + 1) + (i + 1))) 8 = ly_S (fun i => g (9 * ((8 * q + i) / 8 + 1) + (8 * q + i) % 8 + 1)) 8 :=
        ly_S_c (fun i hi => by rw [show 9 * ((8 * q + i) / 8 + 1) + (8 * q + i) % 8 + 1 = 9 * (q + 1) + (i + 1) by omega])
      show _ + (g (9 * (q + 1) + 0) + ly_S (fun i => g (9 * (q + 1) + (i + 1))) 8) = ly_S (fun x => g (9 * (x + 1))) q + g (9 * (q + 1)) + _
      rw [e, Nat.add_zero]
      omega
  exact P 8
/-! the law's own loops -/
theorem ly_ones {post : Int32 → Prop} (x : Int64) (hp : post (nI (ly_S (fun i => (ly_bL x i).toNat) 64))) : wpL_ones post () x :=
  pk_loop (σ := Unit) (fun n i _ => wL_ones_4 post x n (nI (ly_S (fun i => (ly_bL x i).toNat) i)) (nI i)) (fun _ _ => True) 64 0 () (by omega) trivial
    (fun n _ _ => pk_le 64 64 (fun _ => hp) (fun z => absurd z (by omega)))
    (fun n i _ hi _ hw => pk_le 64 i (fun z => absurd z (by omega)) (fun _ => nm_r (e' := nI (ly_S (fun i => (ly_bL x i).toNat) (i + 1))) (by rw [ly_bit64 x hi, nI_add]; rfl) (nm_r (nI_1 i) (hw () trivial))))
theorem ly_total {post : Int32 → Prop} (x : Int64) {y : Int32} {a : Nat} (hy : y = nI a) (hp : post (nI (ly_S (fun i => (ly_bL x i).toNat * 7 * (a + i)) 64))) : wpL_total post () x y :=
  pk_loop (σ := Unit) (fun n i _ => wL_total_5 post x y n (nI (ly_S (fun i => (ly_bL x i).toNat * 7 * (a + i)) i)) (nI i)) (fun _ _ => True) 64 0 () (by omega) trivial
    (fun n _ _ => pk_le 64 64 (fun _ => hp) (fun z => absurd z (by omega)))
    (fun n i _ hi _ hw => pk_le 64 i (fun z => absurd z (by omega)) (fun _ => nm_r (e' := nI (ly_S (fun i => (ly_bL x i).toNat * 7 * (a + i)) (i + 1))) (by rw [ly_bit64 x hi, hy, show (7 : Int32) = nI 7 from rfl, pk_mul, nI_add a i, pk_mul, nI_add]; rfl) (nm_r (nI_1 i) (hw () trivial))))
def ly_f1 (x : Int32) (i : Nat) (A : Bool) (k : Nat) : Nat := if k < i ∨ (k = i ∧ A = true) then (ly_bI x k).toNat else 0
def ly_f2 (x : Int64) (i j : Nat) (k : Nat) : Nat := if k / 8 < i ∨ (k / 8 = i ∧ k % 8 < j) then (ly_bL x k).toNat else 0
theorem ly_rank54 {post : Int32 → Prop} {x1 : Int64} {i j a0 : Nat} {A : Bool} {x4 : Int32} (hi : i < 8) (h4 : (A = true ∧ x4 = nI j ∧ j < 8) ∨ (A = false ∧ x4 = -1 ∧ j = 0)) (hp : post (nI (a0 + ly_S (ly_f2 x1 i j) 64))) :
    ∃ n, wL_rank_54 post x1 (nI i) x4 n (nI a0) 0 := by
  refine pk_loop (σ := Unit) (fun n k _ => wL_rank_54 post x1 (nI i) x4 n (nI (a0 + ly_S (ly_f2 x1 i j) k)) (nI k)) (fun _ _ => True) 64 0 () (by omega) trivial
    (fun n _ _ => pk_le 64 64 (fun _ => hp) (fun z => absurd z (by omega)))
    (fun n k _ hk _ hw => pk_le 64 k (fun z => absurd z (by omega)) (fun _ => ?_))
  have yes : (k / 8 < i ∨ (k / 8 = i ∧ k % 8 < j)) → wL_rank_89 post (wL_rank_54 post x1 (nI i) x4 n) x1 (nI i) x4 (nI k) (nI (a0 + ly_S (ly_f2 x1 i j) k)) := by
    intro hc
    refine nm_r (e' := nI (a0 + ly_S (ly_f2 x1 i j) (k + 1))) ?_ (nm_r (nI_1 k) (hw () trivial))
    rw [ly_bit64 x1 hk, nI_add, Nat.add_assoc]
    show _ = nI (a0 + (ly_S (ly_f2 x1 i j) k + ly_f2 x1 i j k))
    rw [show ly_f2 x1 i j k = (ly_bL x1 k).toNat from if_pos hc]
  have no : ¬ (k / 8 < i ∨ (k / 8 = i ∧ k % 8 < j)) → nI (a0 + ly_S (ly_f2 x1 i j) k) + 0 = nI (a0 + ly_S (ly_f2 x1 i j) (k + 1)) := by
    intro hc
    show nI (a0 + ly_S (ly_f2 x1 i j) k) + nI 0 = nI (a0 + (ly_S (ly_f2 x1 i j) k + ly_f2 x1 i j k))
    rw [nI_add, show ly_f2 x1 i j k = 0 from if_neg hc]
    rfl
  have e8 : nI k >>> ((3 : Int32) &&& 31) = nI (k / 8) := pk_shrN (by omega) _ 3 (by decide)
  have e7 : nI k &&& 7 = nI (k % 8) := pk_andN (by omega) 3 (by decide)
  refine pk_lt (k / 8) i (fun g => yes (Or.inl g)) (fun g => pk_eq (k / 8) i (fun g2 => ?_) (fun g2 => nm_r (no (by omega)) (nm_r (nI_1 k) (hw () trivial))) (hx := e8)) (hx := e8)
  rcases h4 with ⟨_, h5, h6⟩ | ⟨_, h5, h6⟩
  · exact pk_le j (k % 8) (fun g3 => nm_r (no (by omega)) (nm_r (nI_1 k) (hw () trivial))) (fun g3 => yes (Or.inr ⟨g2, g3⟩)) (hx := h5) (hy := e7)
  · refine br_t ?_ (nm_r (no (by omega)) (nm_r (nI_1 k) (hw () trivial)))
    rw [e7, h5]
    exact Int32.le_of_lt (Int32.lt_of_lt_of_le (by decide : (-1 : Int32) < 0) (nI_pos' (by omega)))
theorem ly_rankL {post : Int32 → Prop} {x0 : Int32} {x1 : Int64} {i j : Nat} {A : Bool} {x4 : Int32} (hi : i < 8) (h4 : (A = true ∧ x4 = nI j ∧ j < 8) ∨ (A = false ∧ x4 = -1 ∧ j = 0)) (hp : post (nI (ly_S (ly_f1 x0 i A) 8 + ly_S (ly_f2 x1 i j) 64))) :
    wpL_rank post () x0 x1 (nI i) x4 := by
  refine pk_loop (σ := Unit) (fun n k _ => wL_rank_6 post x0 x1 (nI i) x4 n (nI (ly_S (ly_f1 x0 i A) k)) (nI k)) (fun _ _ => True) 8 0 () (by omega) trivial
    (fun n _ _ => pk_le 8 8 (fun _ => ly_rank54 hi h4 hp) (fun z => absurd z (by omega)))
    (fun n k _ hk _ hw => pk_le 8 k (fun z => absurd z (by omega)) (fun _ => ?_))
  have yes : (k < i ∨ (k = i ∧ A = true)) → wL_rank_32 post (wL_rank_6 post x0 x1 (nI i) x4 n) x0 x1 (nI i) x4 (nI k) (nI (ly_S (ly_f1 x0 i A) k)) := by
    intro hc
    refine nm_r (e' := nI (ly_S (ly_f1 x0 i A) (k + 1))) ?_ (nm_r (nI_1 k) (hw () trivial))
    rw [ly_bit32 x0 (show k < 32 by omega), nI_add]
    show _ = nI (ly_S (ly_f1 x0 i A) k + ly_f1 x0 i A k)
    rw [show ly_f1 x0 i A k = (ly_bI x0 k).toNat from if_pos hc]
  have no : ¬ (k < i ∨ (k = i ∧ A = true)) → nI (ly_S (ly_f1 x0 i A) k) + 0 = nI (ly_S (ly_f1 x0 i A) (k + 1)) := by
    intro hc
    show nI (ly_S (ly_f1 x0 i A) k) + nI 0 = nI (ly_S (ly_f1 x0 i A) k + ly_f1 x0 i A k)
    rw [nI_add, show ly_f1 x0 i A k = 0 from if_neg hc]
  refine pk_lt k i (fun g => yes (Or.inl g)) (fun g => pk_eq k i (fun g2 => ?_) (fun g2 => nm_r (no (by omega)) (nm_r (nI_1 k) (hw () trivial))))
  rcases h4 with ⟨h5, h6, h7⟩ | ⟨h5, h6, _⟩
  · exact br_f (by rw [h6]; exact nI_pos (by omega)) (yes (Or.inr ⟨g2, h5⟩))
  · refine br_t (by rw [h6]; decide) (nm_r (no ?_) (nm_r (nI_1 k) (hw () trivial)))
    rintro (z | z)
    · omega
    · rw [h5] at z; exact absurd z.2 (by decide)
/-! the set of the law's two words of bits -/
def ly_m (x2 : Int32) (x3 : Int64) (y : Nat) : Bool := decide (9 ≤ y) && (if y % 9 = 0 then ly_bI x2 (y / 9 - 1) else ly_bL x3 (8 * (y / 9 - 1) + (y % 9 - 1)))
theorem ly_mA {x2 : Int32} {x3 : Int64} (x : Nat) : ly_m x2 x3 (9 * (x + 1)) = ly_bI x2 x := by
  unfold ly_m
  rw [decide_eq_true (by omega), if_pos (by omega), show 9 * (x + 1) / 9 - 1 = x by omega]
  rfl
theorem ly_mB {x2 : Int32} {x3 : Int64} (w : Nat) : ly_m x2 x3 (9 * (w / 8 + 1) + w % 8 + 1) = ly_bL x3 w := by
  unfold ly_m
  rw [decide_eq_true (by omega), if_neg (by omega), show 8 * ((9 * (w / 8 + 1) + w % 8 + 1) / 9 - 1) + ((9 * (w / 8 + 1) + w % 8 + 1) % 9 - 1) = w by omega]
  rfl
theorem ly_wdB {w : Nat} (hw : w < 64) : ly_wd (9 * (w / 8 + 1) + w % 8 + 1) = 64 + w := by
  unfold ly_wd
  rw [if_neg (by omega)]
  omega
theorem ly_Ksum (m : Nat → Bool) (f : Nat → Nat) : ∀ n, (((List.range n).filter m).map f).sum = ly_S (fun y => if m y = true then f y else 0) n := by
  intro n
  induction n with
  | zero => rfl
  | succ n ih =>
    rw [List.range_succ, List.filter_append, List.map_append, List.sum_append, ih]
    show _ = ly_S (fun y => if m y = true then f y else 0) n + (if m n = true then f n else 0)
    congr 1
    by_cases h : m n = true
    · rw [if_pos h, List.filter_cons_of_pos h]; simp
    · rw [if_neg h, List.filter_cons_of_neg h]; simp
theorem ly_lenS (p : Nat → Bool) (K : List Nat) : (K.filter p).length = (K.map (fun y => if p y = true then 1 else 0)).sum := by
  induction K with
  | nil => rfl
  | cons x K ih =>
    rw [List.map_cons, List.sum_cons, ← ih]
    by_cases h : p x = true
    · rw [if_pos h, List.filter_cons_of_pos h, List.length_cons, Nat.add_comm]
    · rw [if_neg h, List.filter_cons_of_neg h, Nat.zero_add]
theorem ly_len1 (K : List Nat) : K.length = (K.map (fun _ => 1)).sum := by
  induction K with
  | nil => rfl
  | cons x K ih => rw [List.map_cons, List.sum_cons, ← ih, List.length_cons, Nat.add_comm]
theorem ly_bm (b : Bool) (n : Nat) : (if b = true then n else 0) = b.toNat * n := by
  cases b
  · show 0 = 0 * n
    rw [Nat.zero_mul]
  · show n = 1 * n
    rw [Nat.one_mul]
theorem ly_KS (x2 : Int32) (x3 : Int64) (f : Nat → Nat) : ((ly_K (ly_m x2 x3)).map f).sum = ly_S (fun x => (ly_bI x2 x).toNat * f (9 * (x + 1))) 8 + ly_S (fun w => (ly_bL x3 w).toNat * f (9 * (w / 8 + 1) + w % 8 + 1)) 64 := by
  unfold ly_K
  rw [ly_Ksum, ly_S81]
  · congr 1
    · exact ly_S_c (fun x _ => by show (if ly_m x2 x3 (9 * (x + 1)) = true then _ else 0) = _; rw [ly_mA, ly_bm])
    · exact ly_S_c (fun w _ => by show (if ly_m x2 x3 (9 * (w / 8 + 1) + w % 8 + 1) = true then _ else 0) = _; rw [ly_mB, ly_bm])
  · intro y hy
    have : ly_m x2 x3 y = false := by
      unfold ly_m
      rw [decide_eq_false (by omega)]
      rfl
    show (if ly_m x2 x3 y = true then f y else 0) = 0
    rw [this]
    rfl
/-- the first word of bits has eight -/
def ly_e8 (x2 : Int32) : Prop := ∀ i, 8 ≤ i → ly_bI x2 i = false
theorem ly_ext {x2 : Int32} (h : ly_e8 x2) (i : Nat) (hi : i < 64) : ly_bL x2.toInt64 i = ly_bI x2 i := by
  unfold ly_bL
  rw [Int32.toBitVec_toInt64, BitVec.getLsbD_signExtend]
  rw [decide_eq_true hi, Bool.true_and]
  by_cases g : i < 32
  · rw [if_pos g]; rfl
  · rw [if_neg g, h i (by omega), BitVec.msb_eq_getLsbD_last]
    exact h 31 (by omega)
theorem ly_ones8 {x2 : Int32} (h : ly_e8 x2) (g : Nat → Nat) : ly_S (fun i => (ly_bL x2.toInt64 i).toNat * g i) 64 = ly_S (fun i => (ly_bI x2 i).toNat * g i) 8 := by
  rw [ly_S_c (g := fun i => (ly_bI x2 i).toNat * g i) (fun i hi => by rw [ly_ext h i hi])]
  exact ly_S_tail (by omega) (fun i hi => by
    show (ly_bI x2 i).toNat * g i = 0
    rw [h i hi]
    exact Nat.zero_mul _)
end
section
variable {t fc c l cu : Int32} {a1 a2 a3 a4 a5 a6 a7 a8 a9 a10 a11 a12 : Nat → Int32}
variable {V : Nat → Int32} {x2 : Int32} {x3 : Int64}
def ly_I (x2 : Int32) (x3 : Int64) (u : St1) : Prop := ly_e8 x2 ∧ ∃ V, ly_ok (ly_m x2 x3) V u ∧ ∀ y, y ∈ ly_K (ly_m x2 x3) → V y = nI (7 * ly_wd y)
theorem ly_nn (he : ly_e8 x2) : ly_S (fun i => (ly_bL x2.toInt64 i).toNat) 64 + ly_S (fun i => (ly_bL x3 i).toNat) 64 = (ly_K (ly_m x2 x3)).length := by
  rw [ly_len1, ly_KS]
  congr 1
  · exact (ly_S_c (fun i _ => (Nat.mul_one _).symm)).trans (ly_ones8 he (fun _ => 1))
  · exact ly_S_c (fun i _ => (Nat.mul_one _).symm)
theorem ly_sum1 (he : ly_e8 x2) : ((ly_K (ly_m x2 x3)).map (fun y => if (fun _ => true) y = true then 7 * ly_wd y else 0)).sum = ly_S (fun i => (ly_bL x2.toInt64 i).toNat * 7 * (8 + i)) 64 + ly_S (fun i => (ly_bL x3 i).toNat * 7 * (64 + i)) 64 := by
  rw [ly_KS]
  congr 1
  · refine (Eq.trans (ly_S_c (fun i _ => Nat.mul_assoc _ _ _)) (Eq.trans (ly_ones8 he (fun i => 7 * (8 + i))) (ly_S_c (fun i _ => ?_)))).symm
    show (ly_bI x2 i).toNat * (7 * (8 + i)) = (ly_bI x2 i).toNat * (7 * ly_wd (9 * (i + 1)))
    rw [ly_wd8]
  · refine ly_S_c (fun i hi => ?_)
    show (ly_bL x3 i).toNat * (7 * ly_wd (9 * (i / 8 + 1) + i % 8 + 1)) = _
    rw [ly_wdB hi, Nat.mul_assoc]
theorem ly_rk_eq {s i j : Nat} {A : Bool} (h1 : ∀ x, x < 8 → (9 * (x + 1) < s ↔ (x < i ∨ (x = i ∧ A = true)))) (h2 : ∀ w, w < 64 → (9 * (w / 8 + 1) + w % 8 + 1 < s ↔ (w / 8 < i ∨ (w / 8 = i ∧ w % 8 < j)))) :
    ((ly_K (ly_m x2 x3)).filter (fun y => decide (y < s))).length = ly_S (ly_f1 x2 i A) 8 + ly_S (ly_f2 x3 i j) 64 := by
  rw [ly_lenS, ly_KS]
  congr 1
  · refine ly_S_c (fun x hx => ?_)
    show (ly_bI x2 x).toNat * (if decide (9 * (x + 1) < s) = true then 1 else 0) = (if x < i ∨ (x = i ∧ A = true) then (ly_bI x2 x).toNat else 0)
    by_cases g : 9 * (x + 1) < s
    · rw [if_pos (decide_eq_true g), if_pos ((h1 x hx).mp g), Nat.mul_one]
    · rw [if_neg (by rw [decide_eq_false g]; decide), if_neg (fun z => g ((h1 x hx).mpr z)), Nat.mul_zero]
  · refine ly_S_c (fun w hw => ?_)
    show (ly_bL x3 w).toNat * (if decide (9 * (w / 8 + 1) + w % 8 + 1 < s) = true then 1 else 0) = (if w / 8 < i ∨ (w / 8 = i ∧ w % 8 < j) then (ly_bL x3 w).toNat else 0)
    by_cases g : 9 * (w / 8 + 1) + w % 8 + 1 < s
    · rw [if_pos (decide_eq_true g), if_pos ((h2 w hw).mp g), Nat.mul_one]
    · rw [if_neg (by rw [decide_eq_false g]; decide), if_neg (fun z => g ((h2 w hw).mpr z)), Nat.mul_zero]
def ly_mi (x3 : Int64) (i : Nat) : Int64 := x3 &&& ((255 : Int64) <<< ((8 * nI i).toInt64 &&& 63))
theorem ly_msk : ∀ i, i < 8 → ∀ w, w < 64 → ((255 : Int64) <<< ((8 * nI i).toInt64 &&& 63)).toBitVec.getLsbD w = decide (w / 8 = i) := by decide +kernel
theorem ly_mine {i w : Nat} (hi : i < 8) (hw : w < 64) : ly_bL (ly_mi x3 i) w = (ly_bL x3 w && decide (w / 8 = i)) := by
  unfold ly_bL ly_mi
  rw [Int64.toBitVec_and, BitVec.getLsbD_and, ly_msk i hi w hw]
theorem ly_row_sum {i : Nat} (hi : i < 8) (v : Nat → Nat) : ((ly_K (ly_m x2 x3)).map (fun y => if (fun y => decide (y / 9 = i + 1)) y = true then v y else 0)).sum = (ly_bI x2 i).toNat * v (9 * (i + 1)) + ly_S (fun w => (ly_bL (ly_mi x3 i) w).toNat * v (9 * (w / 8 + 1) + w % 8 + 1)) 64 := by
  rw [ly_KS]
  congr 1
  · rw [ly_S_one hi (fun j hj hji => ?_)]
    · show (ly_bI x2 i).toNat * (if decide (9 * (i + 1) / 9 = i + 1) = true then v (9 * (i + 1)) else 0) = _
      rw [if_pos (decide_eq_true (by omega))]
    · show (ly_bI x2 j).toNat * (if decide (9 * (j + 1) / 9 = i + 1) = true then v (9 * (j + 1)) else 0) = 0
      rw [decide_eq_false (by omega)]
      exact Nat.mul_zero _
  · refine ly_S_c (fun w hw => ?_)
    show (ly_bL x3 w).toNat * (if decide ((9 * (w / 8 + 1) + w % 8 + 1) / 9 = i + 1) = true then v (9 * (w / 8 + 1) + w % 8 + 1) else 0) = _
    rw [ly_mine hi hw]
    by_cases g : w / 8 = i
    · rw [decide_eq_true (show (9 * (w / 8 + 1) + w % 8 + 1) / 9 = i + 1 by omega), decide_eq_true g, Bool.and_true]
      rfl
    · rw [decide_eq_false (show ¬ (9 * (w / 8 + 1) + w % 8 + 1) / 9 = i + 1 by omega), decide_eq_false g, Bool.and_false]
      show _ * 0 = 0 * _
      rw [Nat.mul_zero, Nat.zero_mul]
theorem ly_rankX {post : Int32 → St1 → Prop} {m : Nat → Bool} {s : Nat} {x : Int32} (hx : x = nI (ly_wd s)) (hk : ly_ok m V (t, fc, c, l, cu, a1, a2, a3, a4, a5, a6, a7, a8, a9, a10, a11, a12)) (h9 : 9 ≤ s) (hs : s < 81)
    (hp : ∀ u, ly_ok m V u → post (nI ((ly_K m).filter (fun y => decide (y < s))).length) u) : wpX_rank post (t, fc, c, l, cu, a1, a2, a3, a4, a5, a6, a7, a8, a9, a10, a11, a12) x := by
  subst hx
  exact ly_rank hk h9 hs hp
theorem ly_hasX {post : Int32 → Prop} {m : Nat → Bool} {s : Nat} {x : Int32} (hx : x = nI (ly_wd s)) (hk : ly_ok m V (t, fc, c, l, cu, a1, a2, a3, a4, a5, a6, a7, a8, a9, a10, a11, a12)) (h9 : 9 ≤ s) (hs : s < 81) (hp : post (if m s = true then 1 else 0)) : wpX_has post (t, fc, c, l, cu, a1, a2, a3, a4, a5, a6, a7, a8, a9, a10, a11, a12) x := by
  subst hx
  obtain ⟨ch, fr, hc, hf, hfr, hfl, hcn, h40, hcu⟩ := hk
  have hmem : s ∈ ly_fl ch ↔ m s = true := by
    rw [hfl, ly_mK]
    exact ⟨fun z => z.2, fun z => ⟨hs, z⟩⟩
  refine ly_hasC h9 hs hc hf (fun _ _ => rfl) (fun g => ?_) (fun g => ?_)
  · rw [if_neg (fun z => g (hmem.mpr z))] at hp; exact hp
  · rw [if_pos (hmem.mp g)] at hp; exact hp
theorem ly_longX {post : Int32 → Prop} {m : Nat → Bool} {s : Nat} {x : Int32} (hx : x = nI (ly_wd s)) (hk : ly_ok m V (t, fc, c, l, cu, a1, a2, a3, a4, a5, a6, a7, a8, a9, a10, a11, a12)) (h9 : 9 ≤ s) (hs : s < 81) (h2 : ¬ s % 9 = 0)
    (hp : post (if m s = true then nI (ly_wd s) else if m (9 * (s / 9)) = true then nI (7 + s / 9) else -2)) : wpX_longest post (t, fc, c, l, cu, a1, a2, a3, a4, a5, a6, a7, a8, a9, a10, a11, a12) x := by
  subst hx
  obtain ⟨ch, fr, hc, hf, hfr, hfl, hcn, h40, hcu⟩ := hk
  have hmem : ∀ y, y < 81 → (y ∈ ly_fl ch ↔ m y = true) := by
    intro y hy
    rw [hfl, ly_mK]
    exact ⟨fun z => z.2, fun z => ⟨hy, z⟩⟩
  refine ly_longestC h9 hs h2 hc hf (fun _ _ => rfl) (fun g => ?_) (fun g g2 => ?_) (fun g g2 => ?_)
  · rw [if_pos ((hmem s hs).mp g)] at hp; exact hp
  · rw [if_neg (fun z => g ((hmem s hs).mpr z)), if_pos ((hmem _ (by omega)).mp g2)] at hp; exact hp
  · rw [if_neg (fun z => g ((hmem s hs).mpr z)), if_neg (fun z => g2 ((hmem _ (by omega)).mpr z))] at hp; exact hp
/-! the common beginning, as the law has it -/
theorem ly_low : ∀ w, w < 64 → ly_S (fun j => (ly_bL ((Int64.ofBitVec (BitVec.twoPow 64 w) &&& (-Int64.ofBitVec (BitVec.twoPow 64 w))) - 1) j).toNat) 64 = w := by decide +kernel
theorem ly_bit_ext {x y : Int64} (h : ∀ i, i < 64 → ly_bL x i = ly_bL y i) : x = y := Int64.toBitVec_inj.mp (BitVec.eq_of_getLsbD_eq (fun i hi => h i hi))
theorem ly_bL0 (i : Nat) : ly_bL 0 i = false := BitVec.getLsbD_zero
theorem ly_tn {b : Bool} (h : 0 < b.toNat) : b = true := by
  cases b
  · exact absurd h (by decide)
  · rfl
/-- what the law's variable 'common' holds -/
def ly_cv (x2 : Int32) (x3 : Int64) (i : Nat) : Int32 :=
  if ly_bI x2 i = true ∨ 1 < ly_S (fun w => (ly_bL (ly_mi x3 i) w).toNat) 64 then nI (8 + i) else if ly_mi x3 i = 0 then -2 else nI (64 + ly_S (fun j => (ly_bL ((ly_mi x3 i &&& (-ly_mi x3 i)) - 1) j).toNat) 64)
theorem ly_cv_eq {i : Nat} (hi : i < 8) {r : Int32} (h : ly_cmR i (ly_K (ly_m x2 x3)) r) (hb : ∀ y, y ∈ ly_K (ly_m x2 x3) → 9 ≤ y ∧ y < 81) : r = ly_cv x2 x3 i := by
  have hA : 9 * (i + 1) ∈ ly_K (ly_m x2 x3) ↔ ly_bI x2 i = true := by
    rw [ly_mK, ly_mA]
    exact ⟨fun z => z.2, fun z => ⟨by omega, z⟩⟩
  have hB : ∀ w, w < 64 → (9 * (w / 8 + 1) + w % 8 + 1 ∈ ly_K (ly_m x2 x3) ↔ ly_bL x3 w = true) := by
    intro w hw
    rw [ly_mK, ly_mB]
    exact ⟨fun z => z.2, fun z => ⟨by omega, z⟩⟩
  have hM : ∀ w, w < 64 → (ly_bL (ly_mi x3 i) w = true ↔ ly_bL x3 w = true ∧ w / 8 = i) := by
    intro w hw
    rw [ly_mine hi hw, Bool.and_eq_true, decide_eq_true_iff]
  have hw : ∀ y, y ∈ ly_K (ly_m x2 x3) → y / 9 = i + 1 → y ≠ 9 * (i + 1) → ∃ w, w < 64 ∧ y = 9 * (w / 8 + 1) + w % 8 + 1 ∧ ly_bL (ly_mi x3 i) w = true := by
    intro y hy h1 h2
    have hb := hb y hy
    refine ⟨8 * i + (y % 9 - 1), by omega, by omega, ?_⟩
    rw [hM _ (by omega)]
    refine ⟨(hB _ (by omega)).mp ?_, by omega⟩
    rw [show 9 * ((8 * i + (y % 9 - 1)) / 8 + 1) + (8 * i + (y % 9 - 1)) % 8 + 1 = y by omega]
    exact hy
  have hwK : ∀ w, w < 64 → ly_bL (ly_mi x3 i) w = true → 9 * (w / 8 + 1) + w % 8 + 1 ∈ ly_K (ly_m x2 x3) ∧ (9 * (w / 8 + 1) + w % 8 + 1) / 9 = i + 1 := by
    intro w h1 h2
    have := (hM w h1).mp h2
    exact ⟨(hB w h1).mpr this.1, by omega⟩
  unfold ly_cv
  by_cases g : ly_bI x2 i = true ∨ 1 < ly_S (fun w => (ly_bL (ly_mi x3 i) w).toNat) 64
  · rw [if_pos g]
    rcases h with ⟨h1, h2⟩ | ⟨y, h1, h2, h3, h4⟩ | ⟨_, h6⟩
    · exfalso
      rcases g with g | g
      · exact h1 _ (hA.mpr g) (by omega)
      · obtain ⟨w, w1, w2⟩ := ly_S_ex (Nat.lt_of_succ_lt g)
        have := hwK w w1 (ly_tn w2)
        exact h1 _ this.1 this.2
    · rcases g with g | g
      · have := h3 _ (hA.mpr g) (by omega)
        rw [h4, ← this, ly_wd8]
      · exfalso
        obtain ⟨w, w', w1, w2, w3, w4⟩ := ly_S_ex2 (fun i => Bool.toNat_le _) g
        have k1 := hwK w (by omega) (ly_tn w3)
        have k2 := hwK w' w2 (ly_tn w4)
        have e1 := h3 _ k1.1 k1.2
        have e2 := h3 _ k2.1 k2.2
        omega
    · exact h6
  · rw [if_neg g]
    have g1 : ¬ ly_bI x2 i = true := fun z => g (Or.inl z)
    have g2 : ¬ 1 < ly_S (fun w => (ly_bL (ly_mi x3 i) w).toNat) 64 := fun z => g (Or.inr z)
    have ne1 : ∀ y, y ∈ ly_K (ly_m x2 x3) → y ≠ 9 * (i + 1) := fun y hy e => g1 (hA.mp (e ▸ hy))
    have uni : ∀ a b, a < 64 → b < 64 → ly_bL (ly_mi x3 i) a = true → ly_bL (ly_mi x3 i) b = true → a = b := by
      intro a b ha hb' h1 h2
      rcases Nat.lt_trichotomy a b with z | z | z
      · have := ly_S_ge2 (f := fun w => (ly_bL (ly_mi x3 i) w).toNat) z hb'
        simp only [h1, h2] at this
        exact absurd this g2
      · exact z
      · have := ly_S_ge2 (f := fun w => (ly_bL (ly_mi x3 i) w).toNat) z ha
        simp only [h1, h2] at this
        exact absurd this g2
    by_cases g3 : ly_mi x3 i = 0
    · rw [if_pos g3]
      have none : ∀ w, ¬ ly_bL (ly_mi x3 i) w = true := by
        intro w z
        rw [g3, ly_bL0] at z
        exact absurd z (by decide)
      rcases h with ⟨h1, h2⟩ | ⟨y, h1, h2, h3, h4⟩ | ⟨⟨y, z, h1, h2, h3, h4, h5⟩, h6⟩
      · exact h2
      · obtain ⟨w, _, _, w3⟩ := hw y h1 h2 (ne1 y h1)
        exact absurd w3 (none w)
      · obtain ⟨w, _, _, w3⟩ := hw y h1 h4 (ne1 y h1)
        exact absurd w3 (none w)
    · rw [if_neg g3]
      obtain ⟨w, w1, w2⟩ : ∃ w, w < 64 ∧ ly_bL (ly_mi x3 i) w = true := by
        by_cases z : ∃ w, w < 64 ∧ ly_bL (ly_mi x3 i) w = true
        · exact z
        · refine absurd (ly_bit_ext (fun j hj => ?_)) g3
          rw [ly_bL0]
          cases e : ly_bL (ly_mi x3 i) j
          · rfl
          · exact absurd ⟨j, hj, e⟩ z
      have em : ly_mi x3 i = Int64.ofBitVec (BitVec.twoPow 64 w) := by
        refine ly_bit_ext (fun j hj => ?_)
        show _ = (BitVec.twoPow 64 w).getLsbD j
        rw [BitVec.getLsbD_twoPow]
        by_cases e : j = w
        · subst e
          rw [w2]
          simp [hj]
        · have : ly_bL (ly_mi x3 i) j = false := by
            cases e2 : ly_bL (ly_mi x3 i) j
            · rfl
            · exact absurd (uni j w hj w1 e2 w2) e
          rw [this]
          simp
          omega
      have el : ly_S (fun j => (ly_bL ((ly_mi x3 i &&& (-ly_mi x3 i)) - 1) j).toNat) 64 = w := by
        rw [em]
        exact ly_low w w1
      rw [el]
      have kw := hwK w w1 w2
      rcases h with ⟨h1, h2⟩ | ⟨y, h1, h2, h3, h4⟩ | ⟨⟨y, z, h1, h2, h3, h4, h5⟩, h6⟩
      · exact absurd kw.2 (h1 _ kw.1)
      · have := h3 _ kw.1 kw.2
        rw [h4, ← this, ly_wdB w1]
      · exfalso
        obtain ⟨u, u1, u2, u3⟩ := hw y h1 h4 (ne1 y h1)
        obtain ⟨u', v1, v2, v3⟩ := hw z h2 h5 (ne1 z h2)
        have := uni u u' u1 v1 u3 v3
        subst this
        omega
theorem ly_commonX {post : Int32 → St1 → Prop} {i : Nat} {x : Int32} (hi : i < 8) (hx : x = nI (8 + i)) (hk : ly_ok (ly_m x2 x3) V (t, fc, c, l, cu, a1, a2, a3, a4, a5, a6, a7, a8, a9, a10, a11, a12))
    (hp : ∀ u, ly_ok (ly_m x2 x3) V u → post (ly_cv x2 x3 i) u) : wpX_common post (t, fc, c, l, cu, a1, a2, a3, a4, a5, a6, a7, a8, a9, a10, a11, a12) x := by
  subst hx
  refine ly_common hi hk (fun r u hu hr => ?_)
  rw [ly_cv_eq hi hr (ly_ok_b hk)]
  exact hp u hu
theorem ly_310 {post : Int32 → St1 → Prop} {i : Nat} {x13 : Int32} (hi : i < 8) (h13 : x13 = ly_cv x2 x3 i) (hk : ly_ok (ly_m x2 x3) V (t, fc, c, l, cu, a1, a2, a3, a4, a5, a6, a7, a8, a9, a10, a11, a12)) (hp : ∀ u, ly_ok (ly_m x2 x3) V u → post 1 u) : wL_agrees_310 post (nI i) x13 t fc c l cu a1 a2 a3 a4 a5 a6 a7 a8 a9 a10 a11 a12 := by
  unfold wL_agrees_310
  refine ly_commonX hi (nI_add 8 i) hk (fun u hu => ?_)
  obtain ⟨t, fc, c, l, cu, a1, a2, a3, a4, a5, a6, a7, a8, a9, a10, a11, a12⟩ := u
  exact br_t h13.symm (hp _ hu)
theorem ly_253 {post : Int32 → St1 → Prop} {i : Nat} {z : Int32} (hi : i < 8) (hk : ly_ok (ly_m x2 x3) V (t, fc, c, l, cu, a1, a2, a3, a4, a5, a6, a7, a8, a9, a10, a11, a12)) (hp : ∀ u, ly_ok (ly_m x2 x3) V u → post 1 u) : wL_agrees_253 post (nI i) (ly_mi x3 i) (nI (ly_bI x2 i).toNat) z z t fc c l cu a1 a2 a3 a4 a5 a6 a7 a8 a9 a10 a11 a12 := by
  refine br_t rfl ?_
  have h277 : ly_cv x2 x3 i = nI (8 + i) → wL_agrees_277 post (nI i) t fc c l cu a1 a2 a3 a4 a5 a6 a7 a8 a9 a10 a11 a12 := fun e => nm_r (e' := nI (8 + i)) (nI_add 8 i) (ly_310 hi e.symm hk hp)
  cases hb : ly_bI x2 i
  · refine br_f (by decide) (ly_ones _ (pk_le _ 1 (fun g => ?_) (fun g => ?_) (ha := ?_)))
    · have hno : ¬ (ly_bI x2 i = true ∨ 1 < ly_S (fun w => (ly_bL (ly_mi x3 i) w).toNat) 64) := by
        rintro (z | z)
        · rw [hb] at z; exact absurd z (by decide)
        · omega
      refine br_c (fun g2 => ?_) (fun g2 => ?_)
      · refine ly_310 hi ?_ hk hp
        unfold ly_cv
        rw [if_neg hno, if_pos g2]
      · refine ly_ones _ (nm_e (ly_310 hi ?_ hk hp))
        unfold ly_cv
        rw [if_neg hno, if_neg g2]
        exact nI_add 64 _
    · refine h277 ?_
      unfold ly_cv
      rw [if_pos (Or.inr g)]
    · have : ∀ n, ly_S (fun w => (ly_bL (ly_mi x3 i) w).toNat) n ≤ n := by
        intro n
        induction n with
        | zero => exact Nat.le_refl _
        | succ n ih =>
          show ly_S _ n + (ly_bL (ly_mi x3 i) n).toNat ≤ n + 1
          have := Bool.toNat_le (ly_bL (ly_mi x3 i) n)
          omega
      have := this 64
      omega
  · refine br_t rfl (h277 ?_)
    unfold ly_cv
    rw [if_pos (Or.inl hb)]
theorem ly_191 {post : Int32 → St1 → Prop} {w : Nat} {z : Int32} (hw : w < 64) (hz : z = nI (ly_bL x3 w).toNat) (hk : ly_ok (ly_m x2 x3) V (t, fc, c, l, cu, a1, a2, a3, a4, a5, a6, a7, a8, a9, a10, a11, a12)) (hp : ∀ u, ly_ok (ly_m x2 x3) V u → post 1 u) :
    wL_agrees_191 post (nI w) (nI (w / 8)) (ly_mi x3 (w / 8)) (nI (ly_bI x2 (w / 8)).toNat) z t fc c l cu a1 a2 a3 a4 a5 a6 a7 a8 a9 a10 a11 a12 := by
  have ex : (64 : Int32) + nI w = nI (ly_wd (9 * (w / 8 + 1) + w % 8 + 1)) := by rw [ly_wdB hw]; exact nI_add 64 w
  have e8 : (8 : Int32) + nI (w / 8) = nI (8 + w / 8) := nI_add 8 _
  have last : ∀ {q : Int32}, wL_agrees_231 post (nI w) (nI (w / 8)) (ly_mi x3 (w / 8)) (nI (ly_bI x2 (w / 8)).toNat) z q q t fc c l cu a1 a2 a3 a4 a5 a6 a7 a8 a9 a10 a11 a12 := by
    intro q
    refine br_t rfl (ly_hasX ex hk (by omega) (by omega) ?_)
    rw [ly_mB, hz]
    cases ly_bL x3 w
    · exact br_t rfl (ly_253 (by omega) hk hp)
    · exact br_f (by decide) (ly_253 (by omega) hk hp)
  unfold wL_agrees_191
  refine ly_longX ex hk (by omega) (by omega) (by omega) ?_
  rw [ly_mB, show 9 * ((9 * (w / 8 + 1) + w % 8 + 1) / 9) = 9 * (w / 8 + 1) by omega, ly_mA, ← ex, show 7 + (9 * (w / 8 + 1) + w % 8 + 1) / 9 = 8 + w / 8 by omega, ← e8]
  revert last
  rw [hz]
  intro last
  cases hb : ly_bL x3 w
  · rw [hb] at last
    refine br_t rfl ?_
    cases hb2 : ly_bI x2 (w / 8)
    · rw [hb2] at last
      exact br_f (by decide) last
    · rw [hb2] at last
      exact br_t rfl last
  · rw [hb] at last
    exact br_f (by decide) last
theorem ly_agrees {post : Int32 → St1 → Prop} {w : Nat} (hw : w < 64) (hI : ly_I x2 x3 (t, fc, c, l, cu, a1, a2, a3, a4, a5, a6, a7, a8, a9, a10, a11, a12)) (hp : ∀ u, ly_I x2 x3 u → post 1 u) : wpL_agrees post (t, fc, c, l, cu, a1, a2, a3, a4, a5, a6, a7, a8, a9, a10, a11, a12) x2 x3 (nI w) := by
  obtain ⟨he, V, hk, hv⟩ := hI
  have hi : w / 8 < 8 := by omega
  have e8 : (8 : Int32) + nI (w / 8) = nI (8 + w / 8) := nI_add 8 _
  have hrow : ly_row (8 + nI (w / 8)) (fun y => decide (y / 9 = w / 8 + 1)) := by rw [e8]; exact ly_row_8 hi
  have hcn : c = nI (ly_K (ly_m x2 x3)).length := by
    obtain ⟨ch, fr, _, _, _, _, h5, _, _⟩ := hk
    exact h5
  have rk1 : ((ly_K (ly_m x2 x3)).filter (fun y => decide (y < 9 * (w / 8 + 1) + w % 8 + 1))).length = ly_S (ly_f1 x2 (w / 8) true) 8 + ly_S (ly_f2 x3 (w / 8) (w % 8)) 64 := by
    refine ly_rk_eq (fun x hx => ⟨fun h => ?_, fun h => ?_⟩) (fun k hk => ⟨fun h => ?_, fun h => ?_⟩)
    · rcases Nat.lt_or_ge x (w / 8) with z | z
      · exact Or.inl z
      · exact Or.inr ⟨by omega, rfl⟩
    · rcases h with h | h <;> omega
    · omega
    · omega
  have rk2 : ((ly_K (ly_m x2 x3)).filter (fun y => decide (y < 9 * (w / 8 + 1)))).length = ly_S (ly_f1 x2 (w / 8) false) 8 + ly_S (ly_f2 x3 (w / 8) 0) 64 := by
    refine ly_rk_eq (fun x hx => ⟨fun h => ?_, fun h => ?_⟩) (fun k hk => ⟨fun h => ?_, fun h => ?_⟩)
    · exact Or.inl (by omega)
    · rcases h with h | h
      · omega
      · exact absurd h.2 (by decide)
    · omega
    · omega
  unfold wpL_agrees
  refine ly_ones _ (ly_ones _ (nm_r (e' := nI (ly_K (ly_m x2 x3)).length) (by rw [nI_add, ly_nn he]) (nm_r (e' := nI (w / 8)) (pk_shrN (by omega) _ 3 (by decide)) (br_t hcn ?_))))
  refine ly_sum hk ly_row_1 hv (fun u hk => ?_)
  obtain ⟨t, fc, c, l, cu, a1, a2, a3, a4, a5, a6, a7, a8, a9, a10, a11, a12⟩ := u
  refine ly_total _ (a := 8) rfl (ly_total _ (a := 64) rfl (br_t (by rw [nI_add, ly_sum1 he]) ?_))
  refine ly_rankX (s := 9 * (w / 8 + 1) + w % 8 + 1) (by rw [ly_wdB hw]; exact nI_add 64 w) hk (by omega) (by omega) (fun u hk => ?_)
  obtain ⟨t, fc, c, l, cu, a1, a2, a3, a4, a5, a6, a7, a8, a9, a10, a11, a12⟩ := u
  refine ly_rankL (A := true) (j := w % 8) hi (Or.inl ⟨rfl, pk_andN (by omega) 3 (by decide), by omega⟩) (br_t (by rw [rk1]) ?_)
  refine ly_rankX (s := 9 * (w / 8 + 1)) (by rw [ly_wd8]; exact e8) hk (by omega) (by omega) (fun u hk => ?_)
  obtain ⟨t, fc, c, l, cu, a1, a2, a3, a4, a5, a6, a7, a8, a9, a10, a11, a12⟩ := u
  refine ly_rankL (A := false) (j := 0) hi (Or.inr ⟨rfl, rfl, rfl⟩) (br_t (by rw [rk2]) ?_)
  refine nm_r (e' := ly_mi x3 (w / 8)) rfl (nm_r (ly_bit32 x2 (by omega)) (ly_count hk hrow (fun u hk => ?_)))
  obtain ⟨t, fc, c, l, cu, a1, a2, a3, a4, a5, a6, a7, a8, a9, a10, a11, a12⟩ := u
  refine ly_ones _ (br_t ?_ ?_)
  · rw [ly_row_sum hi (fun _ => 1), nI_add, Nat.mul_one]
    congr 2
    exact ly_S_c (fun i _ => Nat.mul_one _)
  refine ly_sum hk hrow hv (fun u hk => ?_)
  obtain ⟨t, fc, c, l, cu, a1, a2, a3, a4, a5, a6, a7, a8, a9, a10, a11, a12⟩ := u
  refine ly_total _ (a := 64) rfl (br_t ?_ ?_)
  · rw [ly_row_sum hi (fun y => 7 * ly_wd y), e8, show (7 : Int32) = nI 7 from rfl, pk_mul, pk_mul, nI_add]
    congr 1
    rw [ly_wd8, Nat.mul_assoc]
    congr 1
    refine ly_S_c (fun i hi => ?_)
    show (ly_bL (ly_mi x3 (w / 8)) i).toNat * (7 * ly_wd (9 * (i / 8 + 1) + i % 8 + 1)) = _
    rw [ly_wdB hi, Nat.mul_assoc]
  have fin : ∀ u, ly_ok (ly_m x2 x3) V u → post 1 u := fun u hu => hp u ⟨he, V, hu, hv⟩
  refine br_c (fun g => ly_191 hw ?_ hk fin) (fun g => ly_191 hw ?_ hk fin)
  · rw [(ly_bit1 x3 hw).mp g]; rfl
  · rw [Bool.eq_false_iff.mpr (fun z => g ((ly_bit1 x3 hw).mpr z))]; rfl
end
section
variable {t fc c l cu : Int32} {a1 a2 a3 a4 a5 a6 a7 a8 a9 a10 a11 a12 : Nat → Int32}
variable {V : Nat → Int32} {x2 : Int32} {x3 : Int64}
/-! setting and clearing bits -/
theorem ly_t32 : ∀ k, k < 32 → ((1 : Int32) <<< (nI k &&& 31)).toBitVec = BitVec.twoPow 32 k := by decide +kernel
theorem ly_t64 : ∀ k, k < 64 → ((1 : Int64) <<< ((nI k).toInt64 &&& 63)).toBitVec = BitVec.twoPow 64 k := by decide +kernel
theorem ly_or32 {k : Nat} (hk : k < 32) (j : Nat) : ly_bI (x2 ||| ((1 : Int32) <<< (nI k &&& 31))) j = if j = k then true else ly_bI x2 j := by
  unfold ly_bI
  rw [Int32.toBitVec_or, BitVec.getLsbD_or, ly_t32 k hk, BitVec.getLsbD_twoPow]
  by_cases e : j = k
  · subst e; simp [hk]
  · rw [if_neg e]; simp [show ¬ k = j from fun z => e z.symm]
theorem ly_an32 {k : Nat} (hk : k < 32) (j : Nat) : ly_bI (x2 &&& (((1 : Int32) <<< (nI k &&& 31)) ^^^ (-1))) j = if j = k then false else ly_bI x2 j := by
  unfold ly_bI
  rcases Nat.lt_or_ge j 32 with g | g
  · rw [Int32.toBitVec_and, BitVec.getLsbD_and, Int32.toBitVec_xor, BitVec.getLsbD_xor, ly_t32 k hk, BitVec.getLsbD_twoPow]
    rw [show (-1 : Int32).toBitVec.getLsbD j = true from (by decide +kernel : ∀ j, j < 32 → (-1 : Int32).toBitVec.getLsbD j = true) j g]
    by_cases e : j = k
    · subst e; simp [hk]
    · rw [if_neg e]; simp [show ¬ k = j from fun z => e z.symm]
  · rw [BitVec.getLsbD_of_ge _ _ g, BitVec.getLsbD_of_ge _ _ g]
    split <;> rfl
theorem ly_or64 {k : Nat} (hk : k < 64) (j : Nat) : ly_bL (x3 ||| ((1 : Int64) <<< ((nI k).toInt64 &&& 63))) j = if j = k then true else ly_bL x3 j := by
  unfold ly_bL
  rw [Int64.toBitVec_or, BitVec.getLsbD_or, ly_t64 k hk, BitVec.getLsbD_twoPow]
  by_cases e : j = k
  · subst e; simp [hk]
  · rw [if_neg e]; simp [show ¬ k = j from fun z => e z.symm]
theorem ly_n64 (z : Int64) {j : Nat} (hj : j < 64) : ly_bL (z ^^^ (-1)) j = !ly_bL z j := by
  unfold ly_bL
  rw [Int64.toBitVec_xor, BitVec.getLsbD_xor, show (-1 : Int64).toBitVec.getLsbD j = true from (by decide +kernel : ∀ j, j < 64 → (-1 : Int64).toBitVec.getLsbD j = true) j hj]
  simp
theorem ly_a64 (z : Int64) (j : Nat) : ly_bL (x3 &&& z) j = (ly_bL x3 j && ly_bL z j) := by
  unfold ly_bL
  rw [Int64.toBitVec_and, BitVec.getLsbD_and]
theorem ly_an64 {k : Nat} (hk : k < 64) {j : Nat} (hj : j < 64) : ly_bL (x3 &&& (((1 : Int64) <<< ((nI k).toInt64 &&& 63)) ^^^ (-1))) j = if j = k then false else ly_bL x3 j := by
  rw [ly_a64, ly_n64 _ hj]
  unfold ly_bL
  rw [ly_t64 k hk, BitVec.getLsbD_twoPow]
  by_cases e : j = k
  · subst e; simp [hk]
  · rw [if_neg e]; simp [show ¬ k = j from fun z => e z.symm]
theorem ly_m_1 {x2' : Int32} {x : Nat} {v : Bool} (h : ∀ j, ly_bI x2' j = if j = x then v else ly_bI x2 j) (y : Nat) : ly_m x2' x3 y = ly_set (ly_m x2 x3) (9 * (x + 1)) v y := by
  unfold ly_set
  by_cases e : y = 9 * (x + 1)
  · rw [if_pos e, e, ly_mA, h x, if_pos rfl]
  · rw [if_neg e]
    unfold ly_m
    by_cases g : 9 ≤ y
    · by_cases g2 : y % 9 = 0
      · rw [if_pos g2, if_pos g2, h (y / 9 - 1), if_neg (by omega)]
      · rw [if_neg g2, if_neg g2]
    · rw [decide_eq_false g]; rfl
theorem ly_m_2 {x3' : Int64} {w : Nat} {v : Bool} (hw : w < 64) (h : ∀ j, j < 64 → ly_bL x3' j = if j = w then v else ly_bL x3 j) (y : Nat) (hy : y < 81) : ly_m x2 x3' y = ly_set (ly_m x2 x3) (9 * (w / 8 + 1) + w % 8 + 1) v y := by
  unfold ly_set
  by_cases e : y = 9 * (w / 8 + 1) + w % 8 + 1
  · rw [if_pos e, e, ly_mB, h w hw, if_pos rfl]
  · rw [if_neg e]
    unfold ly_m
    by_cases g : 9 ≤ y
    · by_cases g2 : y % 9 = 0
      · rw [if_pos g2, if_pos g2]
      · rw [if_neg g2, if_neg g2, h _ (by omega), if_neg (by omega)]
    · rw [decide_eq_false g]; rfl
/-! states with the right values -/
def ly_J (m : Nat → Bool) (u : St1) : Prop := ∃ V, ly_ok m V u ∧ ∀ y, y ∈ ly_K m → V y = nI (7 * ly_wd y)
theorem ly_J_c {m m2 : Nat → Bool} {u : St1} (h : ∀ y, y < 81 → m y = m2 y) (hk : ly_J m u) : ly_J m2 u := by
  obtain ⟨V, h1, h2⟩ := hk
  refine ⟨V, ly_ok_c h h1, fun y hy => h2 y ?_⟩
  have := ly_mK.mp hy
  exact ly_mK.mpr ⟨this.1, by rw [h y this.1]; exact this.2⟩
theorem ly_putJ {post : Int32 → St1 → Prop} {m : Nat → Bool} {s : Nat} {x v : Int32} (hx : x = nI (ly_wd s)) (hv : v = nI (7 * ly_wd s)) (hk : ly_J m (t, fc, c, l, cu, a1, a2, a3, a4, a5, a6, a7, a8, a9, a10, a11, a12)) (h9 : 9 ≤ s) (hs : s < 81)
    (h0 : m s = true → ∀ u, ly_J m u → post 0 u)
    (h1 : m s = false → (ly_K m).length < 40 → ∀ u, ly_J (ly_set m s true) u → post 1 u)
    (h2 : m s = false → (ly_K m).length = 40 → post (-2) (t, fc, c, l, cu, a1, a2, a3, a4, a5, a6, a7, a8, a9, a10, a11, a12)) : wpX_put post (t, fc, c, l, cu, a1, a2, a3, a4, a5, a6, a7, a8, a9, a10, a11, a12) x v := by
  subst hx
  obtain ⟨V, hk, hV⟩ := hk
  refine ly_put hk h9 hs (fun g u hu => h0 g u ⟨_, hu, fun y hy => ?_⟩) (fun g g2 u hu _ => h1 g g2 u ⟨_, hu, fun y hy => ?_⟩) h2
  · by_cases e : y = s
    · rw [e, pk_us, hv]
    · rw [pk_un e]; exact hV y hy
  · by_cases e : y = s
    · rw [e, pk_us, hv]
    · rw [pk_un e]
      have := ly_mK.mp hy
      unfold ly_set at this
      rw [if_neg e] at this
      exact hV y (ly_mK.mpr this)
theorem ly_removeJ {post : Int32 → St1 → Prop} {m : Nat → Bool} {s : Nat} {x : Int32} (hx : x = nI (ly_wd s)) (hk : ly_J m (t, fc, c, l, cu, a1, a2, a3, a4, a5, a6, a7, a8, a9, a10, a11, a12)) (h9 : 9 ≤ s) (hs : s < 81)
    (h0 : m s = false → post (-2) (t, fc, c, l, cu, a1, a2, a3, a4, a5, a6, a7, a8, a9, a10, a11, a12)) (h1 : m s = true → ∀ u, ly_J (ly_set m s false) u → post 0 u) : wpX_remove post (t, fc, c, l, cu, a1, a2, a3, a4, a5, a6, a7, a8, a9, a10, a11, a12) x := by
  subst hx
  obtain ⟨V, hk, hV⟩ := hk
  refine ly_remove hk h9 hs h0 (fun g u hu => h1 g u ⟨V, hu, fun y hy => hV y ?_⟩)
  have := ly_mK.mp hy
  unfold ly_set at this
  by_cases e : y = s
  · rw [if_pos e] at this; exact absurd this.2 (by decide)
  · rw [if_neg e] at this; exact ly_mK.mpr this
theorem ly_clearJ {post : Int32 → St1 → Prop} {m : Nat → Bool} {x : Int32} {R : Nat → Bool} (hk : ly_J m (t, fc, c, l, cu, a1, a2, a3, a4, a5, a6, a7, a8, a9, a10, a11, a12)) (hrow : ly_row x R)
    (hp : ∀ u, ly_J (fun y => m y && !R y) u → post (nI (((ly_K m).map (fun y => if R y = true then 1 else 0)).sum)) u) : wpX_clear post (t, fc, c, l, cu, a1, a2, a3, a4, a5, a6, a7, a8, a9, a10, a11, a12) x := by
  obtain ⟨V, hk, hV⟩ := hk
  refine ly_clear hk hrow (fun u hu => hp u ⟨V, hu, fun y hy => hV y ?_⟩)
  have := ly_mK.mp hy
  rw [Bool.and_eq_true] at this
  exact ly_mK.mpr ⟨this.1, this.2.1⟩
/-! sowing -/
/-- m and the k two-letter words from w on -/
def ly_mw (m : Nat → Bool) (w k : Nat) (y : Nat) : Bool := m y || (decide (9 ≤ y) && decide (¬ y % 9 = 0 ∧ w ≤ 8 * (y / 9 - 1) + (y % 9 - 1) ∧ 8 * (y / 9 - 1) + (y % 9 - 1) < w + k))
theorem ly_mw0 (m : Nat → Bool) (w y : Nat) : ly_mw m w 0 y = m y := by
  unfold ly_mw
  rw [decide_eq_false (show ¬ (¬ y % 9 = 0 ∧ w ≤ 8 * (y / 9 - 1) + (y % 9 - 1) ∧ 8 * (y / 9 - 1) + (y % 9 - 1) < w + 0) by omega), Bool.and_false, Bool.or_false]
theorem ly_mwS (m : Nat → Bool) {w k : Nat} (y : Nat) : ly_mw m w (k + 1) y = ly_set (ly_mw m w k) (9 * ((w + k) / 8 + 1) + (w + k) % 8 + 1) true y := by
  unfold ly_set
  by_cases e : y = 9 * ((w + k) / 8 + 1) + (w + k) % 8 + 1
  · rw [if_pos e]
    unfold ly_mw
    rw [decide_eq_true (show 9 ≤ y by omega), decide_eq_true (show ¬ y % 9 = 0 ∧ w ≤ 8 * (y / 9 - 1) + (y % 9 - 1) ∧ 8 * (y / 9 - 1) + (y % 9 - 1) < w + (k + 1) by omega)]
    simp
  · rw [if_neg e]
    unfold ly_mw
    by_cases g : 9 ≤ y
    · have : decide (¬ y % 9 = 0 ∧ w ≤ 8 * (y / 9 - 1) + (y % 9 - 1) ∧ 8 * (y / 9 - 1) + (y % 9 - 1) < w + (k + 1)) = decide (¬ y % 9 = 0 ∧ w ≤ 8 * (y / 9 - 1) + (y % 9 - 1) ∧ 8 * (y / 9 - 1) + (y % 9 - 1) < w + k) := by
        apply decide_eq_decide.mpr
        omega
      rw [this]
    · rw [decide_eq_false g]; rfl
theorem ly_mwB (m : Nat → Bool) {w k y : Nat} (hy : y < 81) (h : 64 ≤ w + k) : ly_mw m w (k + 1) y = ly_mw m w k y := by
  unfold ly_mw
  by_cases g : 9 ≤ y
  · have : decide (¬ y % 9 = 0 ∧ w ≤ 8 * (y / 9 - 1) + (y % 9 - 1) ∧ 8 * (y / 9 - 1) + (y % 9 - 1) < w + (k + 1)) = decide (¬ y % 9 = 0 ∧ w ≤ 8 * (y / 9 - 1) + (y % 9 - 1) ∧ 8 * (y / 9 - 1) + (y % 9 - 1) < w + k) := by
      apply decide_eq_decide.mpr
      omega
    rw [this]
  · rw [decide_eq_false g]; rfl
/-- the values are right but, perhaps, those of the words from w + i up to w + q -/
def ly_vq (m : Nat → Bool) (V : Nat → Int32) (w i q : Nat) : Prop := ∀ y, y ∈ ly_K m → V y = nI (7 * ly_wd y) ∨ (¬ y % 9 = 0 ∧ w + i ≤ 8 * (y / 9 - 1) + (y % 9 - 1) ∧ 8 * (y / 9 - 1) + (y % 9 - 1) < w + q)
theorem ly_K_c {m m2 : Nat → Bool} (h : ∀ y, y < 81 → m y = m2 y) : ly_K m = ly_K m2 := ly_uniq (ly_K_pw _) (ly_K_pw _) (fun y => by
  rw [ly_mK, ly_mK]
  exact ⟨fun z => ⟨z.1, by rw [← h y z.1]; exact z.2⟩, fun z => ⟨z.1, by rw [h y z.1]; exact z.2⟩⟩)
theorem ly_sow60 {post : Int32 → St1 → Prop} {m : Nat → Bool} {w q : Nat} {p2 : Int32} (hw : w < 64) (hq : q ≤ 8) (hn : (ly_K m).length < 33)
    (hp : ∀ t fc c l cu a1 a2 a3 a4 a5 a6 a7 a8 a9 a10 a11 a12 V, ly_ok (ly_mw m w q) V (t, fc, c, l, cu, a1, a2, a3, a4, a5, a6, a7, a8, a9, a10, a11, a12) → ly_vq (ly_mw m w q) V w 0 q → post (nI (ly_K (ly_mw m w q)).length) (t, fc, c, l, cu, a1, a2, a3, a4, a5, a6, a7, a8, a9, a10, a11, a12)) :
    ∀ (d k n : Nat) (t fc c l cu : Int32) (a1 a2 a3 a4 a5 a6 a7 a8 a9 a10 a11 a12 V : Nat → Int32), k + d = q → d < n → ly_ok (ly_mw m w k) V (t, fc, c, l, cu, a1, a2, a3, a4, a5, a6, a7, a8, a9, a10, a11, a12) → ly_vq (ly_mw m w k) V w 0 q → (ly_K (ly_mw m w k)).length ≤ (ly_K m).length + k →
      wX_sow_60 post (nI (64 + w)) p2 (nI 1) (nI q) n (nI k) t fc c l cu a1 a2 a3 a4 a5 a6 a7 a8 a9 a10 a11 a12 := by
  intro d
  induction d with
  | zero =>
    intro k n t fc c l cu a1 a2 a3 a4 a5 a6 a7 a8 a9 a10 a11 a12 V hkd hdn hk hv hlen
    obtain ⟨n, rfl⟩ : ∃ n', n = n' + 1 := ⟨n - 1, by omega⟩
    have e : k = q := by omega
    subst e
    refine pk_le k k (fun _ => ?_) (fun g => absurd g (by omega))
    have hc : c = nI (ly_K (ly_mw m w k)).length := by
      obtain ⟨_, _, _, _, _, _, h5, _, _⟩ := hk
      exact h5
    rw [hc]
    rw [hc] at hk
    exact hp _ _ _ _ _ _ _ _ _ _ _ _ _ _ _ _ _ V hk hv
  | succ d ih =>
    intro k n t fc c l cu a1 a2 a3 a4 a5 a6 a7 a8 a9 a10 a11 a12 V hkd hdn hk hv hlen
    obtain ⟨n, rfl⟩ : ∃ n', n = n' + 1 := ⟨n - 1, by omega⟩
    refine pk_le q k (fun g => absurd g (by omega)) (fun _ => nm_r (e' := nI (64 + w + k)) (by rw [pk_mul, nI_add, Nat.mul_one]) ?_)
    by_cases g : 64 ≤ w + k
    · refine ly_isWord_big (by omega) (by omega) (br_t rfl (nm_r (nI_1 k) ?_))
      have eq : ∀ y, y < 81 → ly_mw m w k y = ly_mw m w (k + 1) y := fun y hy => (ly_mwB m hy g).symm
      refine ih (k + 1) n _ _ _ _ _ _ _ _ _ _ _ _ _ _ _ _ _ V (by omega) (by omega) (ly_ok_c eq hk) ?_ ?_
      · intro y hy
        rw [← ly_K_c eq] at hy
        exact hv y hy
      · rw [← ly_K_c eq]; omega
    · have ew : nI (64 + w + k) = nI (ly_wd (9 * ((w + k) / 8 + 1) + (w + k) % 8 + 1)) := by rw [ly_wdB (by omega)]; congr 1; omega
      rw [ew]
      have eq1 : ∀ y, y < 81 → ly_set (ly_mw m w k) (9 * ((w + k) / 8 + 1) + (w + k) % 8 + 1) true y = ly_mw m w (k + 1) y := fun y _ => (ly_mwS m y).symm
      refine ly_isWord_wd (by omega) (by omega) (br_f (by decide) (ly_put hk (by omega) (by omega) (fun hm u hu => ?_) (fun hm h40 u hu hl => ?_) (fun hm h40 => absurd h40 (by omega))))
      · obtain ⟨t, fc, c, l, cu, a1, a2, a3, a4, a5, a6, a7, a8, a9, a10, a11, a12⟩ := u
        have eq : ∀ y, y < 81 → ly_mw m w k y = ly_mw m w (k + 1) y := by
          intro y hy
          rw [← eq1 y hy]
          unfold ly_set
          by_cases e : y = 9 * ((w + k) / 8 + 1) + (w + k) % 8 + 1
          · rw [if_pos e, e]; exact hm
          · rw [if_neg e]
        refine nm_r (nI_1 k) (ih (k + 1) n _ _ _ _ _ _ _ _ _ _ _ _ _ _ _ _ _ _ (by omega) (by omega) (ly_ok_c eq hu) ?_ (by rw [← ly_K_c eq]; omega))
        intro y hy
        by_cases e : y = 9 * ((w + k) / 8 + 1) + (w + k) % 8 + 1
        · exact Or.inr (by omega)
        · rw [pk_un e]
          rw [← ly_K_c eq] at hy
          exact hv y hy
      · obtain ⟨t, fc, c, l, cu, a1, a2, a3, a4, a5, a6, a7, a8, a9, a10, a11, a12⟩ := u
        rw [ly_K_c eq1] at hl
        refine nm_r (nI_1 k) (ih (k + 1) n _ _ _ _ _ _ _ _ _ _ _ _ _ _ _ _ _ _ (by omega) (by omega) (ly_ok_c eq1 hu) ?_ (by omega))
        intro y hy
        by_cases e : y = 9 * ((w + k) / 8 + 1) + (w + k) % 8 + 1
        · exact Or.inr (by omega)
        · rw [pk_un e]
          rw [← ly_K_c eq1] at hy
          have := ly_mK.mp hy
          unfold ly_set at this
          rw [if_neg e] at this
          exact hv y (ly_mK.mpr this)
theorem ly_sow {post : Int32 → St1 → Prop} {m : Nat → Bool} {w q : Nat} {x y v : Int32} (hx : x = nI (64 + w)) (hy : y = nI (32 + q)) (hw : w < 64) (hq : q ≤ 8) (hq1 : 1 ≤ q) (hn : (ly_K m).length < 33) (hk : ly_J m (t, fc, c, l, cu, a1, a2, a3, a4, a5, a6, a7, a8, a9, a10, a11, a12))
    (hp : ∀ t fc c l cu a1 a2 a3 a4 a5 a6 a7 a8 a9 a10 a11 a12 V, ly_ok (ly_mw m w q) V (t, fc, c, l, cu, a1, a2, a3, a4, a5, a6, a7, a8, a9, a10, a11, a12) → ly_vq (ly_mw m w q) V w 0 q → post (nI (ly_K (ly_mw m w q)).length) (t, fc, c, l, cu, a1, a2, a3, a4, a5, a6, a7, a8, a9, a10, a11, a12)) : wpX_sow post (t, fc, c, l, cu, a1, a2, a3, a4, a5, a6, a7, a8, a9, a10, a11, a12) x y v := by
  subst hx
  subst hy
  obtain ⟨V, hk, hV⟩ := hk
  have ew : nI (64 + w) = nI (ly_wd (9 * (w / 8 + 1) + w % 8 + 1)) := by rw [ly_wdB hw]
  have e5 : nI (32 + q) >>> ((5 : Int32) &&& 31) = nI 1 := by
    rw [pk_shrN (by omega) _ 5 (by decide)]
    congr 1
    show (32 + q) / 32 = 1
    omega
  have e31 : nI (32 + q) &&& 31 = nI q := by
    rw [pk_andN (by omega) 5 (by decide)]
    congr 1
    show (32 + q) % 32 = q
    omega
  have eq0 : ∀ y, y < 81 → m y = ly_mw m w 0 y := fun y _ => (ly_mw0 m w y).symm
  have go : ∀ n, q < n → wX_sow_60 post (nI (64 + w)) v (nI 1) (nI q) n (nI 0) t fc c l cu a1 a2 a3 a4 a5 a6 a7 a8 a9 a10 a11 a12 := fun n hn2 =>
    ly_sow60 hw hq hn hp q 0 n t fc c l cu a1 a2 a3 a4 a5 a6 a7 a8 a9 a10 a11 a12 V (by omega) hn2 (ly_ok_c eq0 hk) (fun y hy => Or.inl (hV y (by rw [ly_K_c eq0]; exact hy))) (by rw [← ly_K_c eq0]; omega)
  have main : wpX_isWord (fun r_1 => (((r_1 = 0 → (post (-1) (t, fc, c, l, cu, a1, a2, a3, a4, a5, a6, a7, a8, a9, a10, a11, a12))) ∧ (¬ r_1 = 0 → (∀ x4_3 : Int32, x4_3 = nI (32 + q) >>> ((5 : Int32) &&& 31) → (∀ x5_4 : Int32, x5_4 = nI (32 + q) &&& 31 → (((nI (32 + q) < 0 → (post (-2) (t, fc, c, l, cu, a1, a2, a3, a4, a5, a6, a7, a8, a9, a10, a11, a12))) ∧ (¬ nI (32 + q) < 0 → (((x4_3 < 1 → (post (-2) (t, fc, c, l, cu, a1, a2, a3, a4, a5, a6, a7, a8, a9, a10, a11, a12))) ∧ (¬ x4_3 < 1 → (((x4_3 ≤ 1000 → (((x5_4 < 1 → (post (-3) (t, fc, c, l, cu, a1, a2, a3, a4, a5, a6, a7, a8, a9, a10, a11, a12))) ∧ (¬ x5_4 < 1 → (((x5_4 ≤ 30 → (∃ fu60 : Nat, wX_sow_60 post (nI (64 + w)) v x4_3 x5_4 fu60 0 t fc c l cu a1 a2 a3 a4 a5 a6 a7 a8 a9 a10 a11 a12)) ∧ (¬ x5_4 ≤ 30 → (post (-3) (t, fc, c, l, cu, a1, a2, a3, a4, a5, a6, a7, a8, a9, a10, a11, a12))))))))) ∧ (¬ x4_3 ≤ 1000 → (post (-2) (t, fc, c, l, cu, a1, a2, a3, a4, a5, a6, a7, a8, a9, a10, a11, a12))))))))))))))))) () (nI (ly_wd (9 * (w / 8 + 1) + w % 8 + 1))) :=
    ly_isWord_wd (by omega) (by omega) (br_f (by decide) (nm_r e5 (nm_r e31 (br_f (nI_pos (by omega)) (br_f (by decide) (br_t (by decide) (pk_lt q 1 (fun g => absurd g (by omega)) (fun _ => pk_le q 30 (fun _ => ⟨q + 1, go _ (by omega)⟩) (fun g => absurd g (by omega))))))))))
  rw [← ew] at main
  exact main
/-! the turns of the law -/
section
variable {L : Nat} {xs : Nat → Int32} {x5 x7 : Int32} {kc ks : Nat}
variable {J15 : Int32 → Int64 → Int32 → Int32 → Int32 → Int32 → Int32 → Int32 → (Nat → Int32) → (Nat → Int32) → (Nat → Int32) → (Nat → Int32) → (Nat → Int32) → (Nat → Int32) → (Nat → Int32) → (Nat → Int32) → (Nat → Int32) → (Nat → Int32) → (Nat → Int32) → (Nat → Int32) → Prop}
variable {post : Int32 → Prop}
/-- the next turn takes any state that matches -/
def ly_nx (J15 : Int32 → Int64 → Int32 → Int32 → Int32 → Int32 → Int32 → Int32 → (Nat → Int32) → (Nat → Int32) → (Nat → Int32) → (Nat → Int32) → (Nat → Int32) → (Nat → Int32) → (Nat → Int32) → (Nat → Int32) → (Nat → Int32) → (Nat → Int32) → (Nat → Int32) → (Nat → Int32) → Prop) (x5 : Int32) : Prop :=
  ∀ x2 x3 t fc c l cu a1 a2 a3 a4 a5 a6 a7 a8 a9 a10 a11 a12, ly_I x2 x3 (t, fc, c, l, cu, a1, a2, a3, a4, a5, a6, a7, a8, a9, a10, a11, a12) → J15 x2 x3 (x5 + 2) t fc c l cu a1 a2 a3 a4 a5 a6 a7 a8 a9 a10 a11 a12
theorem ly_568 (hJ : ly_nx J15 x5) (he : ly_e8 x2) (hk : ly_J (ly_m x2 x3) (t, fc, c, l, cu, a1, a2, a3, a4, a5, a6, a7, a8, a9, a10, a11, a12)) : wL_law_568 post L xs J15 x2 x3 x5 x7 kc ks t fc c l cu a1 a2 a3 a4 a5 a6 a7 a8 a9 a10 a11 a12 := by
  obtain ⟨w, hw, e⟩ := pk_andE (x7 >>> ((9 : Int32) &&& 31)) (m := 63) 6 (by decide)
  unfold wL_law_568
  rw [e]
  refine ly_agrees hw ⟨he, hk⟩ (fun u hu => ?_)
  obtain ⟨t, fc, c, l, cu, a1, a2, a3, a4, a5, a6, a7, a8, a9, a10, a11, a12⟩ := u
  exact br_f (by decide) (nm_e (hJ _ _ _ _ _ _ _ _ _ _ _ _ _ _ _ _ _ _ _ hu))
theorem ly_e8o (he : ly_e8 x2) {x : Nat} (hx : x < 8) : ly_e8 (x2 ||| ((1 : Int32) <<< (nI x &&& 31))) := by
  intro i hi
  rw [ly_or32 (by omega), if_neg (by omega)]
  exact he i hi
theorem ly_e8a (he : ly_e8 x2) {x : Nat} (hx : x < 8) : ly_e8 (x2 &&& (((1 : Int32) <<< (nI x &&& 31)) ^^^ (-1))) := by
  intro i hi
  rw [ly_an32 (by omega), if_neg (by omega)]
  exact he i hi
theorem ly_121 (hJ : ly_nx J15 x5) (he : ly_e8 x2) {x n : Nat} {z : Int32} (hx : x < 8) (hn : n ≤ 40) (h1 : 40 ≤ n → ly_J (ly_m x2 x3) (t, fc, c, l, cu, a1, a2, a3, a4, a5, a6, a7, a8, a9, a10, a11, a12)) (h2 : n < 40 → ly_J (ly_set (ly_m x2 x3) (9 * (x + 1)) true) (t, fc, c, l, cu, a1, a2, a3, a4, a5, a6, a7, a8, a9, a10, a11, a12)) :
    wL_law_121 post L xs J15 x2 x3 x5 x7 (nI x) (nI n) z z kc ks t fc c l cu a1 a2 a3 a4 a5 a6 a7 a8 a9 a10 a11 a12 :=
  br_t rfl (pk_le 40 n (fun g => ly_568 hJ he (h1 g)) (fun g => nm_e (ly_568 hJ (ly_e8o he hx) (ly_J_c (fun y _ => (ly_m_1 (ly_or32 (by omega)) y).symm) (h2 g)))))
theorem ly_208 (hJ : ly_nx J15 x5) (he : ly_e8 x2) {w n : Nat} {z : Int32} (hw : w < 64) (hn : n ≤ 40) (h1 : 40 ≤ n → ly_J (ly_m x2 x3) (t, fc, c, l, cu, a1, a2, a3, a4, a5, a6, a7, a8, a9, a10, a11, a12)) (h2 : n < 40 → ly_J (ly_set (ly_m x2 x3) (9 * (w / 8 + 1) + w % 8 + 1) true) (t, fc, c, l, cu, a1, a2, a3, a4, a5, a6, a7, a8, a9, a10, a11, a12)) :
    wL_law_208 post L xs J15 x2 x3 x5 x7 (nI w) (nI n) z z kc ks t fc c l cu a1 a2 a3 a4 a5 a6 a7 a8 a9 a10 a11 a12 :=
  br_t rfl (pk_le 40 n (fun g => ly_568 hJ he (h1 g)) (fun g => nm_e (ly_568 hJ he (ly_J_c (fun y hy => (ly_m_2 hw (fun j _ => ly_or64 hw j) y hy).symm) (h2 g)))))
theorem ly_same {m : Nat → Bool} {s : Nat} {v : Bool} (h : m s = v) (y : Nat) : m y = ly_set m s v y := by
  unfold ly_set
  by_cases e : y = s
  · rw [if_pos e, e, h]
  · rw [if_neg e]
theorem ly_166 (hJ : ly_nx J15 x5) (he : ly_e8 x2) {w n : Nat} {z : Int32} (hw : w < 64) (hn : n = (ly_K (ly_m x2 x3)).length) (hz : z = nI (ly_bL x3 w).toNat) (hk : ly_J (ly_m x2 x3) (t, fc, c, l, cu, a1, a2, a3, a4, a5, a6, a7, a8, a9, a10, a11, a12)) :
    wL_law_166 post L xs J15 x2 x3 x5 x7 (nI w) (nI n) z kc ks t fc c l cu a1 a2 a3 a4 a5 a6 a7 a8 a9 a10 a11 a12 := by
  have h40 : (ly_K (ly_m x2 x3)).length ≤ 40 := hk.elim (fun V h => ly_ok_n h.1)
  subst hz
  unfold wL_law_166
  refine ly_putJ (s := 9 * (w / 8 + 1) + w % 8 + 1) (by rw [ly_wdB hw]; exact nI_add 64 w) (by rw [ly_wdB hw, show (448 : Int32) = nI 448 from rfl, show (7 : Int32) = nI 7 from rfl, pk_mul, nI_add]; congr 1; omega) hk (by omega) (by omega) (fun hm u hu => ?_) (fun hm h4 u hu => ?_) (fun hm h4 => ?_)
  · obtain ⟨t, fc, c, l, cu, a1, a2, a3, a4, a5, a6, a7, a8, a9, a10, a11, a12⟩ := u
    have hb : ly_bL x3 w = true := by rw [← ly_mB (x2 := x2)]; exact hm
    rw [hb]
    exact br_f (by decide) (ly_208 hJ he hw (by omega) (fun _ => hu) (fun _ => ly_J_c (fun y _ => ly_same hm y) hu))
  · obtain ⟨t, fc, c, l, cu, a1, a2, a3, a4, a5, a6, a7, a8, a9, a10, a11, a12⟩ := u
    have hb : ly_bL x3 w = false := by rw [← ly_mB (x2 := x2)]; exact hm
    rw [hb]
    exact br_t rfl (pk_le 40 n (fun g => absurd g (by omega)) (fun g => ly_208 hJ he hw (by omega) (fun g => absurd g (by omega)) (fun _ => hu)))
  · have hb : ly_bL x3 w = false := by rw [← ly_mB (x2 := x2)]; exact hm
    rw [hb]
    exact br_t rfl (pk_le 40 n (fun g => ly_208 hJ he hw (by omega) (fun _ => hk) (fun g => absurd g (by omega))) (fun g => absurd g (by omega)))
theorem ly_266 (hJ : ly_nx J15 x5) (he : ly_e8 x2) {x : Nat} {z : Int32} (hx : x < 8) (hk : ly_J (ly_set (ly_m x2 x3) (9 * (x + 1)) false) (t, fc, c, l, cu, a1, a2, a3, a4, a5, a6, a7, a8, a9, a10, a11, a12)) :
    wL_law_266 post L xs J15 x2 x3 x5 x7 (nI x) z z kc ks t fc c l cu a1 a2 a3 a4 a5 a6 a7 a8 a9 a10 a11 a12 :=
  br_t rfl (nm_e (ly_568 hJ (ly_e8a he hx) (ly_J_c (fun y _ => (ly_m_1 (ly_an32 (by omega)) y).symm) hk)))
theorem ly_328 (hJ : ly_nx J15 x5) (he : ly_e8 x2) {w : Nat} {z : Int32} (hw : w < 64) (hk : ly_J (ly_set (ly_m x2 x3) (9 * (w / 8 + 1) + w % 8 + 1) false) (t, fc, c, l, cu, a1, a2, a3, a4, a5, a6, a7, a8, a9, a10, a11, a12)) :
    wL_law_328 post L xs J15 x2 x3 x5 x7 (nI w) z z kc ks t fc c l cu a1 a2 a3 a4 a5 a6 a7 a8 a9 a10 a11 a12 :=
  br_t rfl (nm_e (ly_568 hJ he (ly_J_c (fun y hy => (ly_m_2 hw (fun j hj => ly_an64 hw hj) y hy).symm) hk)))
theorem ly_306 (hJ : ly_nx J15 x5) (he : ly_e8 x2) {w : Nat} {z : Int32} (hw : w < 64) (hz : z = nI (ly_bL x3 w).toNat) (hk : ly_J (ly_m x2 x3) (t, fc, c, l, cu, a1, a2, a3, a4, a5, a6, a7, a8, a9, a10, a11, a12)) :
    wL_law_306 post L xs J15 x2 x3 x5 x7 (nI w) z kc ks t fc c l cu a1 a2 a3 a4 a5 a6 a7 a8 a9 a10 a11 a12 := by
  subst hz
  unfold wL_law_306
  refine ly_removeJ (s := 9 * (w / 8 + 1) + w % 8 + 1) (by rw [ly_wdB hw]; exact nI_add 64 w) hk (by omega) (by omega) (fun hm => ?_) (fun hm u hu => ?_)
  · have hb : ly_bL x3 w = false := by rw [← ly_mB (x2 := x2)]; exact hm
    rw [hb]
    exact br_t rfl (ly_328 hJ he hw (ly_J_c (fun y _ => ly_same hm y) hk))
  · obtain ⟨t, fc, c, l, cu, a1, a2, a3, a4, a5, a6, a7, a8, a9, a10, a11, a12⟩ := u
    have hb : ly_bL x3 w = true := by rw [← ly_mB (x2 := x2)]; exact hm
    rw [hb]
    exact br_f (by decide) (ly_328 hJ he hw hu)
theorem ly_551 (hJ : ly_nx J15 x5) (he : ly_e8 x2) {z : Int32} (hz : z = nI (ly_K (ly_m x2 x3)).length) (hk : ly_J (ly_m x2 x3) (t, fc, c, l, cu, a1, a2, a3, a4, a5, a6, a7, a8, a9, a10, a11, a12)) : wL_law_551 post L xs J15 x2 x3 x5 x7 z kc ks t fc c l cu a1 a2 a3 a4 a5 a6 a7 a8 a9 a10 a11 a12 := by
  unfold wL_law_551
  exact ly_ones _ (ly_ones _ (br_t (by rw [hz, nI_add, ly_nn he]) (ly_568 hJ he hk)))
theorem ly_504 (hJ : ly_nx J15 x5) (he : ly_e8 x2) {w q : Nat} {m : Nat → Bool} (hw : w < 64) (hq : q ≤ 8) (hm : ∀ y, y < 81 → ly_mw m w q y = ly_m x2 x3 y) :
    ∀ (d i n : Nat) (t fc c l cu : Int32) (a1 a2 a3 a4 a5 a6 a7 a8 a9 a10 a11 a12 V : Nat → Int32), i + d = q → d < n → ly_ok (ly_mw m w q) V (t, fc, c, l, cu, a1, a2, a3, a4, a5, a6, a7, a8, a9, a10, a11, a12) → ly_vq (ly_mw m w q) V w i q →
      wL_law_504 post L xs J15 x2 x3 x5 x7 (nI w) (nI q) (nI (ly_K (ly_mw m w q)).length) kc ks n (nI i) t fc c l cu a1 a2 a3 a4 a5 a6 a7 a8 a9 a10 a11 a12 := by
  have fin : ∀ (i : Nat) (t fc c l cu : Int32) (a1 a2 a3 a4 a5 a6 a7 a8 a9 a10 a11 a12 V : Nat → Int32), (q ≤ i ∨ 64 ≤ w + i) → ly_ok (ly_mw m w q) V (t, fc, c, l, cu, a1, a2, a3, a4, a5, a6, a7, a8, a9, a10, a11, a12) → ly_vq (ly_mw m w q) V w i q → wL_law_551 post L xs J15 x2 x3 x5 x7 (nI (ly_K (ly_mw m w q)).length) kc ks t fc c l cu a1 a2 a3 a4 a5 a6 a7 a8 a9 a10 a11 a12 := by
    intro i t fc c l cu a1 a2 a3 a4 a5 a6 a7 a8 a9 a10 a11 a12 V hi hk hv
    refine ly_551 hJ he (by rw [ly_K_c hm]) (ly_J_c hm ⟨V, hk, fun y hy => ?_⟩)
    have hy81 := (ly_mK.mp hy).1
    rcases hv y hy with h | h
    · exact h
    · omega
  intro d
  induction d with
  | zero =>
    intro i n t fc c l cu a1 a2 a3 a4 a5 a6 a7 a8 a9 a10 a11 a12 V hid hdn hk hv
    obtain ⟨n, rfl⟩ : ∃ n', n = n' + 1 := ⟨n - 1, by omega⟩
    exact pk_le q i (fun _ => fin i _ _ _ _ _ _ _ _ _ _ _ _ _ _ _ _ _ V (by omega) hk hv) (fun g => absurd g (by omega))
  | succ d ih =>
    intro i n t fc c l cu a1 a2 a3 a4 a5 a6 a7 a8 a9 a10 a11 a12 V hid hdn hk hv
    obtain ⟨n, rfl⟩ : ∃ n', n = n' + 1 := ⟨n - 1, by omega⟩
    refine pk_le q i (fun g => absurd g (by omega)) (fun _ => pk_le 64 (w + i) (fun g => fin i _ _ _ _ _ _ _ _ _ _ _ _ _ _ _ _ _ V (by omega) hk hv) (fun g => ?_) (hy := nI_add w i))
    have ex : ((64 : Int32) + nI w) + nI i = nI (64 + (w + i)) := by rw [show (64 : Int32) = nI 64 from rfl, nI_add, nI_add, Nat.add_assoc]
    have ev : (7 : Int32) * nI (64 + (w + i)) = nI (7 * (64 + (w + i))) := by rw [show (7 : Int32) = nI 7 from rfl, pk_mul]
    rw [ex, ev, ← ly_wdB g]
    have hin : ly_mw m w q (9 * ((w + i) / 8 + 1) + (w + i) % 8 + 1) = true := by
      unfold ly_mw
      rw [decide_eq_true (by omega), decide_eq_true (by omega)]
      simp
    refine ly_put hk (by omega) (by omega) (fun _ u hu => ?_) (fun h _ => absurd hin (by rw [h]; decide)) (fun h _ => absurd hin (by rw [h]; decide))
    obtain ⟨t, fc, c, l, cu, a1, a2, a3, a4, a5, a6, a7, a8, a9, a10, a11, a12⟩ := u
    refine nm_r (nI_1 i) (ih (i + 1) n _ _ _ _ _ _ _ _ _ _ _ _ _ _ _ _ _ _ (by omega) (by omega) hu ?_)
    intro y hy
    by_cases e : y = 9 * ((w + i) / 8 + 1) + (w + i) % 8 + 1
    · rw [e, pk_us]; exact Or.inl rfl
    · rw [pk_un e]
      have hyb := ly_ok_b hk y hy
      rcases hv y hy with h | h
      · exact Or.inl h
      · exact Or.inr (by omega)
theorem ly_476 (hJ : ly_nx J15 x5) (he : ly_e8 x2) {w q : Nat} {x3' : Int64} (hw : w < 64) (hq : q ≤ 8) (hq1 : 1 ≤ q) (hn : (ly_K (ly_m x2 x3)).length < 33) (hm : ∀ y, y < 81 → ly_mw (ly_m x2 x3) w q y = ly_m x2 x3' y) (hk : ly_J (ly_m x2 x3) (t, fc, c, l, cu, a1, a2, a3, a4, a5, a6, a7, a8, a9, a10, a11, a12)) :
    wL_law_476 post L xs J15 x2 x3' x5 x7 (nI w) (nI q) kc ks t fc c l cu a1 a2 a3 a4 a5 a6 a7 a8 a9 a10 a11 a12 := by
  unfold wL_law_476
  exact ly_sow (nI_add 64 w) (nI_add 32 q) hw hq hq1 hn hk (fun t fc c l cu a1 a2 a3 a4 a5 a6 a7 a8 a9 a10 a11 a12 V hk hv => ⟨q + 1, ly_504 hJ he hw hq hm q 0 (q + 1) t fc c l cu a1 a2 a3 a4 a5 a6 a7 a8 a9 a10 a11 a12 V (by omega) (by omega) hk hv⟩)
theorem ly_443 (hJ : ly_nx J15 x5) (he : ly_e8 x2) {w q : Nat} (hw : w < 64) (hq : q ≤ 8) (hq1 : 1 ≤ q) (hn : (ly_K (ly_m x2 x3)).length < 33) (hk : ly_J (ly_m x2 x3) (t, fc, c, l, cu, a1, a2, a3, a4, a5, a6, a7, a8, a9, a10, a11, a12)) :
    ∃ n, wL_law_443 post L xs J15 x2 x5 x7 (nI w) (nI q) kc ks t fc c l cu a1 a2 a3 a4 a5 a6 a7 a8 a9 a10 a11 a12 n x3 0 := by
  have fin : ∀ (i : Nat) (z : Int64), (q ≤ i ∨ 64 ≤ w + i) → i ≤ q → (∀ j, j < 64 → ly_bL z j = (ly_bL x3 j || decide (w ≤ j ∧ j < w + i))) → wL_law_476 post L xs J15 x2 z x5 x7 (nI w) (nI q) kc ks t fc c l cu a1 a2 a3 a4 a5 a6 a7 a8 a9 a10 a11 a12 := by
    intro i z hi hiq hz
    refine ly_476 hJ he hw hq hq1 hn (fun y hy => ?_) hk
    unfold ly_mw ly_m
    by_cases g : 9 ≤ y
    · rw [decide_eq_true g, Bool.true_and, Bool.true_and]
      by_cases g2 : y % 9 = 0
      · rw [if_pos g2, if_pos g2, decide_eq_false (by omega), Bool.or_false]
        rfl
      · rw [if_neg g2, if_neg g2, hz _ (by omega), Bool.true_and]
        congr 1
        apply decide_eq_decide.mpr
        omega
    · rw [decide_eq_false g]; rfl
  have key : ∀ (d i n : Nat) (z : Int64), i + d = q → d < n → (∀ j, j < 64 → ly_bL z j = (ly_bL x3 j || decide (w ≤ j ∧ j < w + i))) → wL_law_443 post L xs J15 x2 x5 x7 (nI w) (nI q) kc ks t fc c l cu a1 a2 a3 a4 a5 a6 a7 a8 a9 a10 a11 a12 n z (nI i) := by
    intro d
    induction d with
    | zero =>
      intro i n z hid hdn hz
      obtain ⟨n, rfl⟩ : ∃ n', n = n' + 1 := ⟨n - 1, by omega⟩
      exact pk_le q i (fun _ => fin i z (by omega) (by omega) hz) (fun g => absurd g (by omega))
    | succ d ih =>
      intro i n z hid hdn hz
      obtain ⟨n, rfl⟩ : ∃ n', n = n' + 1 := ⟨n - 1, by omega⟩
      refine pk_le q i (fun g => absurd g (by omega)) (fun _ => pk_le 64 (w + i) (fun g => fin i z (by omega) (by omega) hz) (fun g => nm_r (e' := z ||| ((1 : Int64) <<< ((nI (w + i)).toInt64 &&& 63))) (by rw [nI_add]) (nm_r (nI_1 i) (ih (i + 1) n _ (by omega) (by omega) ?_))) (hy := nI_add w i))
      intro j hj
      rw [ly_or64 g]
      by_cases e : j = w + i
      · rw [if_pos e, decide_eq_true (by omega), Bool.or_true]
      · rw [if_neg e, hz j hj]
        congr 1
        apply decide_eq_decide.mpr
        omega
  exact ⟨q + 1, key q 0 (q + 1) x3 (by omega) (by omega) (fun j _ => by rw [decide_eq_false (by omega), Bool.or_false])⟩
theorem ly_clr (he : ly_e8 x2) {x y : Nat} (hx : x < 8) (hy : y < 81) : (ly_m x2 x3 y && !decide (y / 9 = x + 1)) = ly_m (x2 &&& (((1 : Int32) <<< (nI x &&& 31)) ^^^ (-1))) (x3 &&& (ly_mi x3 x ^^^ (-1))) y := by
  unfold ly_m
  by_cases g : 9 ≤ y
  · rw [decide_eq_true g, Bool.true_and, Bool.true_and]
    by_cases g2 : y % 9 = 0
    · rw [if_pos g2, if_pos g2, ly_an32 (by omega)]
      by_cases e : y / 9 = x + 1
      · rw [if_pos (by omega), decide_eq_true e]; simp
      · rw [if_neg (by omega), decide_eq_false e]; simp
    · rw [if_neg g2, if_neg g2, ly_a64, ly_n64 _ (by omega), ly_mine hx (by omega)]
      by_cases e : y / 9 = x + 1
      · rw [decide_eq_true e, decide_eq_true (by omega)]
        cases ly_bL x3 (8 * (y / 9 - 1) + (y % 9 - 1)) <;> rfl
      · rw [decide_eq_false e, decide_eq_false (by omega)]
        cases ly_bL x3 (8 * (y / 9 - 1) + (y % 9 - 1)) <;> rfl
  · rw [decide_eq_false g]; rfl
/-- one turn -/
theorem ly_turn {k n : Nat} (hL : L ≤ 260) (hk1 : k + 1 < L) (hJ : ly_nx (wL_law_15 post L xs kc ks n) (nI k)) (hI : ly_I x2 x3 (t, fc, c, l, cu, a1, a2, a3, a4, a5, a6, a7, a8, a9, a10, a11, a12)) : wL_law_15 post L xs kc ks (n + 1) x2 x3 (nI k) t fc c l cu a1 a2 a3 a4 a5 a6 a7 a8 a9 a10 a11 a12 := by
  obtain ⟨he, hk⟩ := hI
  have hk' : ly_J (ly_m x2 x3) (t, fc, c, l, cu, a1, a2, a3, a4, a5, a6, a7, a8, a9, a10, a11, a12) := hk
  have h40 : (ly_K (ly_m x2 x3)).length ≤ 40 := hk.elim (fun V h => ly_ok_n h.1)
  refine pk_le L (k + 1) (fun g => absurd g (by omega)) (fun _ => ⟨vp_in_nI (by omega) (by omega), ?_⟩) (hy := nI_1 k)
  obtain ⟨o, ho, eo⟩ := pk_andE (xs (nI k).toNatClampNeg) (m := 15) 4 (by decide)
  refine nm_r eo ⟨pk_in (k + 1) L hk1 (hx := nI_1 k), ?_⟩
  intro d _
  obtain ⟨w, hw, ew⟩ := pk_andE d (m := 63) 6 (by decide)
  obtain ⟨x, hx, ex⟩ := pk_andE d (m := 7) 3 (by decide)
  have hw' : w < 64 := hw
  have hx' : x < 8 := hx
  have ho' : o < 16 := ho
  have e8 : (8 : Int32) + nI x = nI (8 + x) := nI_add 8 x
  have e8w : (8 : Int32) + nI x = nI (ly_wd (9 * (x + 1))) := by rw [ly_wd8]; exact e8
  refine nm_r ew (nm_r ex (ly_ones _ (ly_ones _ (nm_r (e' := nI (ly_K (ly_m x2 x3)).length) (by rw [nI_add, ly_nn he]) ?_))))
  have hbit : ∀ {A B : Prop}, (ly_bL x3 w = true → A) → (ly_bL x3 w = false → B) → (((x3 >>> ((nI w).toInt64 &&& 63)) &&& 1) = 1 → A) ∧ (¬ ((x3 >>> ((nI w).toInt64 &&& 63)) &&& 1) = 1 → B) :=
    fun f g => ⟨fun z => f ((ly_bit1 x3 hw').mp z), fun z => g (Bool.eq_false_iff.mpr (fun y => z ((ly_bit1 x3 hw').mpr y)))⟩
  refine pk_le 3 o (fun g3 => pk_le 9 o (fun g9 => pk_eq o 9 (fun e9 => ?_) (fun n9 => pk_le 12 o (fun g12 => pk_eq o 12 (fun e12 => ?_) (fun n12 => pk_eq o 13 (fun e13 => ?_) (fun n13 => ly_568 hJ he hk'))) (fun l12 => ?_))) (fun l9 => ?_)) (fun l3 => ?_)
  · refine nm_r (ly_bit32 x2 (by omega)) (ly_removeJ e8w hk' (by omega) (by omega) (fun hm => ?_) (fun hm u hu => ?_))
    · have hb : ly_bI x2 x = false := by rw [← ly_mA (x3 := x3)]; exact hm
      rw [hb]
      exact br_f (by decide) (ly_266 hJ he hx' (ly_J_c (fun y _ => ly_same hm y) hk'))
    · obtain ⟨t, fc, c, l, cu, a1, a2, a3, a4, a5, a6, a7, a8, a9, a10, a11, a12⟩ := u
      have hb : ly_bI x2 x = true := by rw [← ly_mA (x3 := x3)]; exact hm
      rw [hb]
      exact br_t rfl (ly_266 hJ he hx' hu)
  · refine nm_r (e' := ly_mi x3 x) rfl (ly_clearJ hk' (by rw [e8]; exact ly_row_8 hx') (fun u hu => ?_))
    obtain ⟨t, fc, c, l, cu, a1, a2, a3, a4, a5, a6, a7, a8, a9, a10, a11, a12⟩ := u
    refine ly_ones _ (br_t ?_ (nm_e (nm_e (ly_568 hJ (ly_e8a he hx') (ly_J_c (fun y hy => ly_clr he hx' hy) hu)))))
    rw [ly_row_sum hx' (fun _ => 1), ly_bit32 x2 (by omega), nI_add, Nat.mul_one]
    congr 2
    exact ly_S_c (fun i _ => Nat.mul_one _)
  · refine pk_le 33 (ly_K (ly_m x2 x3)).length (fun _ => ly_568 hJ he hk') (fun g33 => ?_)
    obtain ⟨q, hq, eq⟩ := pk_andE (d >>> ((6 : Int32) &&& 31)) (m := 7) 3 (by decide)
    have hq' : q < 8 := hq
    exact nm_r (e' := nI (1 + q)) (by rw [eq]; exact nI_add 1 q) (ly_443 hJ he hw' (by omega) (by omega) (by omega) hk')
  · exact hbit (fun hb => ly_306 hJ he hw' (by rw [hb]; rfl) hk') (fun hb => ly_306 hJ he hw' (by rw [hb]; rfl) hk')
  · exact hbit (fun hb => ly_166 hJ he hw' rfl (by rw [hb]; rfl) hk') (fun hb => ly_166 hJ he hw' rfl (by rw [hb]; rfl) hk')
  · refine nm_r (ly_bit32 x2 (by omega)) (ly_putJ e8w ?_ hk' (by omega) (by omega) (fun hm u hu => ?_) (fun hm h4 u hu => ?_) (fun hm h4 => ?_))
    · rw [ly_wd8, show (56 : Int32) = nI 56 from rfl, show (7 : Int32) = nI 7 from rfl, pk_mul, nI_add]
      congr 1
      omega
    · obtain ⟨t, fc, c, l, cu, a1, a2, a3, a4, a5, a6, a7, a8, a9, a10, a11, a12⟩ := u
      have hb : ly_bI x2 x = true := by rw [← ly_mA (x3 := x3)]; exact hm
      rw [hb]
      exact br_t rfl (ly_121 hJ he hx' h40 (fun _ => hu) (fun _ => ly_J_c (fun y _ => ly_same hm y) hu))
    · obtain ⟨t, fc, c, l, cu, a1, a2, a3, a4, a5, a6, a7, a8, a9, a10, a11, a12⟩ := u
      have hb : ly_bI x2 x = false := by rw [← ly_mA (x3 := x3)]; exact hm
      rw [hb]
      exact br_f (by decide) (pk_le 40 (ly_K (ly_m x2 x3)).length (fun g => absurd g (by omega)) (fun g => ly_121 hJ he hx' h40 (fun g => absurd g (by omega)) (fun _ => hu)))
    · have hb : ly_bI x2 x = false := by rw [← ly_mA (x3 := x3)]; exact hm
      rw [hb]
      exact br_f (by decide) (pk_le 40 (ly_K (ly_m x2 x3)).length (fun g => ly_121 hJ he hx' h40 (fun _ => hk') (fun g => absurd g (by omega))) (fun g => absurd g (by omega)))
end
theorem ly_law15 {L : Nat} {xs : Nat → Int32} {kc ks : Nat} (hL : L ≤ 260) : ∀ (n k : Nat) (x2 : Int32) (x3 : Int64) (t fc c l cu : Int32) (a1 a2 a3 a4 a5 a6 a7 a8 a9 a10 a11 a12 : Nat → Int32), k ≤ L → L - k < n → ly_I x2 x3 (t, fc, c, l, cu, a1, a2, a3, a4, a5, a6, a7, a8, a9, a10, a11, a12) →
    wL_law_15 (fun r => r = 1) L xs kc ks n x2 x3 (nI k) t fc c l cu a1 a2 a3 a4 a5 a6 a7 a8 a9 a10 a11 a12 := by
  intro n
  induction n with
  | zero => intro k x2 x3 t fc c l cu a1 a2 a3 a4 a5 a6 a7 a8 a9 a10 a11 a12 _ h; omega
  | succ n ih =>
    intro k x2 x3 t fc c l cu a1 a2 a3 a4 a5 a6 a7 a8 a9 a10 a11 a12 hk hn hI
    by_cases g : k + 1 < L
    · refine ly_turn hL g (fun x2 x3 t fc c l cu a1 a2 a3 a4 a5 a6 a7 a8 a9 a10 a11 a12 hI => ?_) hI
      have := ih (k + 2) x2 x3 t fc c l cu a1 a2 a3 a4 a5 a6 a7 a8 a9 a10 a11 a12 (by omega) (by omega) hI
      rw [show nI k + 2 = nI (k + 2) from nI_add k 2]
      exact this
    · exact pk_le L (k + 1) (fun _ => rfl) (fun z => absurd z (by omega)) (hy := nI_1 k)
/-! the object that is made -/
def ly_fr0 : List Nat := (List.range 122).map (fun j => 121 - j)
theorem ly_fr0a : ly_fr0.length = 122 ∧ ly_fr0.Nodup ∧ (∀ b, b ∈ ly_fr0 → b < 122) ∧ ∀ j, j < 122 → ly_fr0.getD j 0 = 121 - j := by decide +kernel
theorem ly_K0 : ly_K (ly_m 0 0) = [] := by decide +kernel
theorem ly_I0 {g : Nat → Int32} (h : ∀ j, j < 122 → g j = nI (121 - j)) : ly_I 0 0 (-1, 122, 0, 0, 0, (fun _ => 0), (fun _ => 0), (fun _ => 0), (fun _ => 0), (fun _ => 0), (fun _ => 0), g, (fun _ => 0), (fun _ => 0), (fun _ => 0), (fun _ => 0), (fun _ => 0)) := by
  obtain ⟨f1, f2, f3, f4⟩ := ly_fr0a
  refine ⟨fun i _ => BitVec.getLsbD_zero, fun _ => 0, ⟨[], ly_fr0, ⟨rfl, fun q hq => absurd hq List.not_mem_nil, List.nodup_nil, List.Pairwise.nil, fun y hy => absurd hy List.not_mem_nil⟩, fun q hq => absurd hq List.not_mem_nil, ⟨by rw [f1]; rfl, fun j hj => ?_, f2, fun b hb => ⟨f3 b hb, List.not_mem_nil⟩, by rw [f1]; rfl⟩, ly_K0.symm, by rw [ly_K0]; rfl, by rw [ly_K0]; exact Nat.zero_le _, Or.inl rfl⟩, fun y hy => ?_⟩
  · rw [f1] at hj
    rw [f4 j hj, h j hj]
  · rw [ly_K0] at hy
    exact absurd hy List.not_mem_nil
theorem ly_init {post : St1 → Prop} (hp : ∀ u, ly_I 0 0 u → post u) : wpX_init post 12 2407 (0, 0, 0, 0, 0) := by
  have key : ∃ n, wX_init_108 post 12 2407 12 2407 (-1) 0 0 0 0 n 0 (fun _ => 0) (fun _ => 0) (fun _ => 0) (fun _ => 0) (fun _ => 0) (fun _ => 0) (fun _ => 0) (fun _ => 0) (fun _ => 0) (fun _ => 0) (fun _ => 0) (fun _ => 0) := by
    refine pk_loop (fun n i s => wX_init_108 post 12 2407 12 2407 (-1) 0 0 0 0 n (nI i) (fun _ => 0) (fun _ => 0) (fun _ => 0) (fun _ => 0) (fun _ => 0) (fun _ => 0) s (fun _ => 0) (fun _ => 0) (fun _ => 0) (fun _ => 0) (fun _ => 0)) (fun i s => ∀ j, j < i → s j = nI (121 - j)) 122 0 (fun _ => 0) (by omega) (fun j hj => absurd hj (by omega))
      (fun n s h => pk_le 122 122 (fun _ => hp _ (ly_I0 h)) (fun z => absurd z (by omega)))
      (fun n i s hi h hw => pk_le 122 i (fun z => absurd z (by omega)) (fun _ => ⟨vp_in_nI hi (by omega), nm_r (e' := upd s i (nI (121 - i))) (by rw [nI_clamp (by omega), show (121 : Int32) = nI 121 from rfl, pk_sub (by omega)]) (nm_r (nI_1 i) (hw _ ?_))⟩))
    intro j hj
    by_cases e : j = i
    · rw [e, pk_us]
    · rw [pk_un e]; exact h j (by omega)
  exact ⟨by omega, by omega, by omega, by omega, by omega, by omega, by omega, by omega, by omega, by omega, by omega, by omega, by omega, by omega, by omega, by omega, by omega, by omega, by omega, by omega, by omega, by omega, by omega, by omega, key⟩
theorem i_vc (xs : Nat → Int32) (L : Nat) (hL : L ≤ 260) : wpL_law (fun r => r = 1) L xs := by
  refine ⟨12, 2407, by omega, by omega, ly_init (fun u hu => ?_)⟩
  obtain ⟨t, fc, c, l, cu, a1, a2, a3, a4, a5, a6, a7, a8, a9, a10, a11, a12⟩ := u
  exact ⟨L + 1, ly_law15 hL (L + 1) 0 0 0 t fc c l cu a1 a2 a3 a4 a5 a6 a7 a8 a9 a10 a11 a12 (by omega) (by omega) hu⟩
end
